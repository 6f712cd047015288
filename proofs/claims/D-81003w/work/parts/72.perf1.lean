set_option maxRecDepth 100000
theorem k_pF2 {A t I' : xI} (h : pF2 (kI A t) I') : ∃ A', I' = kI A' t ∧ pF2 A A' ∧ (∀ i n fr lg, PS I' i n fr lg → PS A' i n fr lg) ∧ ∀ i, A' 4 i 3 = I' 4 i 3 := by
  refine ⟨kI I' A, ?_, fun c j k a b => ?_, fun i n fr lg g => g, fun i => rfl⟩
  · funext c j k
    by_cases e : c = 2
    · subst e; exact h 2 j k (by omega) (by omega)
    · by_cases e2 : c = 31
      · subst e2; exact h 31 j k (by omega) (by omega)
      · rw [kI_of e e2, kI_of e e2]
  · by_cases e : c = 2
    · subst e; rfl
    · by_cases e2 : c = 31
      · subst e2; rfl
      · rw [kI_of e e2]; exact (h c j k a b).trans (by rw [kI_of e e2])
theorem KI.pf2 {A A' : xI} {C : xR} {th : List xTh} {N m : Nat} (h : KI (A, C, th) N m) (f : pF2 A A') : KI (A', C, th) N m := by
  refine KI.of (fun c i k m_ e => ?_) h.rf h.ok ⟨fun i hi => (f 6 i 0 (by omega) (by omega)).trans (h.nm.1 i hi), fun p hp => (f 9 p 0 (by omega) (by omega)).trans (h.nm.2 p hp)⟩ h.ln
  by_cases g : c = 4 ∨ c = 33 ∨ c = 34
  · rcases g with rfl | rfl | rfl <;> cases e
  · rw [f c i k (by omega) (by omega)]; exact h.wf c i k m_ e
/-- the invariant as it must stand behind a call's steps -/
def kOK (N : Nat) (s : kK) (me : Nat) : Prop := kKI N s ∧ s.2.2.length + 300 < 16384 ∧ s.2.1 0 0 19 = some me
theorem kOK.ki {N me : Nat} {s : kK} (h : kOK N s me) : KI s N s.2.2.length := ⟨h.1.1, h.1.2.1, h.1.2.2.1, h.1.2.2.2, Nat.le_refl _⟩
/-- the end of each call -/
noncomputable def kPfZ (N : Nat) (s : kK) (t : Int32) : kQ := if xu s.1 0 0 22 (-1) 5 0 7 = 0 then kRt (kSwA N (xu s.1 0 0 22 (-1)) s.2.1, s.2.1, kSwT (kSwA N (xu s.1 0 0 22 (-1)) s.2.1) s.2.1 s.2.2) t else kRt (kForget N (xu s.1 0 0 22 (-1), s.2.1, s.2.2)) t
noncomputable def kCt1 (N : Nat) (s : kK) (me : Nat) : kK := if s.1 0 0 21 = 16 then ((kUndo N 16 s.2.2 (s.1, s.2.1)).1, (kUndo N 16 s.2.2 (s.1, s.2.1)).2, thEnd s.2.2 16) else if s.1 3 0 0 = -9 then kAbort N s me else s
/-- a call is refused -/
noncomputable def kCt (N : Nat) (s : kK) (me : Nat) : kQ := kPfZ N (xu (kCt1 N s me).1 0 0 18 ((kCt1 N s me).1 0 0 18 + (if s.1 3 0 0 = -8 then 1 else 0)), (kCt1 N s me).2.1, (kCt1 N s me).2.2) (s.1 3 0 0)
def kQb (r : kQ) (f : kK → Int32 → kQ) : kQ := if r.1.1 = 0 then f r.1.2 r.2 else r
noncomputable def kPf2 (N B D Lg : Nat) (me : Nat) (s : kK) (t : Int32) : kQ := if s.1 0 0 21 = 16 then kQb (kFinC N B D Lg s me t) (fun s t => kAs (kRef s.2.1 N) s (kPfZ N s t)) else kPfZ N s t
/-- what comes behind a call's own steps -/
noncomputable def kPf1 (N B D Lg : Nat) (me : Nat) (r : kQ) : kQ := if r.1.1 = 99 then r else kAs (kOK N r.1.2 me) r.1.2 (if r.1.1 = 0 then kPf2 N B D Lg me r.1.2 r.2 else kCt N r.1.2 me)
theorem kFinC_c {N B D Lg me : Nat} {s : kK} {t : Int32} : (kFinC N B D Lg s me t).1.1 = 0 ∨ (kFinC N B D Lg s me t).1.1 = 99 := by
  unfold kFinC kAs
  by_cases e : kDp s.1 N B D Lg
  · rw [cif_t e]; unfold kFc2 kAs
    by_cases e2 : kKI N (kFin N B D Lg 16 s).2
    · rw [cif_t e2]; exact Or.inl rfl
    · rw [cif_f e2]; exact Or.inr rfl
  · rw [cif_f e]; exact Or.inr rfl
theorem dX1_perform_0 : decode cX1_perform 0 = .ok (.aload_n 0, 1) := by decide +kernel
theorem dX1_perform_1 : decode cX1_perform 1 = .ok (.getfield 219, 3) := by decide +kernel
theorem dX1_perform_4 : decode cX1_perform 4 = .ok (.istore 5, 2) := by decide +kernel
theorem dX1_perform_6 : decode cX1_perform 6 = .ok (.iload_n 2, 1) := by decide +kernel
theorem dX1_perform_7 : decode cX1_perform 7 = .ok (.ifCond .eq 19, 3) := by decide +kernel
theorem dX1_perform_10 : decode cX1_perform 10 = .ok (.iload_n 2, 1) := by decide +kernel
theorem dX1_perform_11 : decode cX1_perform 11 = .ok (.iconst 3, 1) := by decide +kernel
theorem dX1_perform_12 : decode cX1_perform 12 = .ok (.if_icmp .eq 14, 3) := by decide +kernel
theorem dX1_perform_15 : decode cX1_perform 15 = .ok (.iload_n 2, 1) := by decide +kernel
theorem dX1_perform_16 : decode cX1_perform 16 = .ok (.bipush 8, 2) := by decide +kernel
theorem dX1_perform_18 : decode cX1_perform 18 = .ok (.bipush 15, 2) := by decide +kernel
theorem dX1_perform_20 : decode cX1_perform 20 = .ok (.invokestatic 211, 3) := by decide +kernel
theorem dX1_perform_23 : decode cX1_perform 23 = .ok (.ifCond .eq 7, 3) := by decide +kernel
theorem dX1_perform_26 : decode cX1_perform 26 = .ok (.iconst 1, 1) := by decide +kernel
theorem dX1_perform_27 : decode cX1_perform 27 = .ok (.goto 4, 3) := by decide +kernel
theorem dX1_perform_30 : decode cX1_perform 30 = .ok (.iconst 0, 1) := by decide +kernel
theorem dX1_perform_31 : decode cX1_perform 31 = .ok (.istore 6, 2) := by decide +kernel
theorem dX1_perform_33 : decode cX1_perform 33 = .ok (.iload 6, 2) := by decide +kernel
theorem dX1_perform_35 : decode cX1_perform 35 = .ok (.ifCond .eq 8, 3) := by decide +kernel
theorem dX1_perform_38 : decode cX1_perform 38 = .ok (.aload_n 0, 1) := by decide +kernel
theorem dX1_perform_39 : decode cX1_perform 39 = .ok (.iconst 0, 1) := by decide +kernel
theorem dX1_perform_40 : decode cX1_perform 40 = .ok (.putfield 219, 3) := by decide +kernel
theorem dX1_perform_43 : decode cX1_perform 43 = .ok (.aload_n 0, 1) := by decide +kernel
theorem dX1_perform_44 : decode cX1_perform 44 = .ok (.getfield 92, 3) := by decide +kernel
theorem dX1_perform_47 : decode cX1_perform 47 = .ok (.getfield 160, 3) := by decide +kernel
theorem dX1_perform_50 : decode cX1_perform 50 = .ok (.ifCond .eq 6, 3) := by decide +kernel
theorem dX1_perform_53 : decode cX1_perform 53 = .ok (.bipush (-14), 2) := by decide +kernel
theorem dX1_perform_55 : decode cX1_perform 55 = .ok (.ireturn, 1) := by decide +kernel
theorem dX1_perform_56 : decode cX1_perform 56 = .ok (.iload_n 1, 1) := by decide +kernel
theorem dX1_perform_57 : decode cX1_perform 57 = .ok (.iconst 0, 1) := by decide +kernel
theorem dX1_perform_58 : decode cX1_perform 58 = .ok (.bipush 15, 2) := by decide +kernel
theorem dX1_perform_60 : decode cX1_perform 60 = .ok (.invokestatic 211, 3) := by decide +kernel
theorem dX1_perform_63 : decode cX1_perform 63 = .ok (.ifCond .eq 29, 3) := by decide +kernel
theorem dX1_perform_66 : decode cX1_perform 66 = .ok (.aload_n 0, 1) := by decide +kernel
theorem dX1_perform_67 : decode cX1_perform 67 = .ok (.getfield 39, 3) := by decide +kernel
theorem dX1_perform_70 : decode cX1_perform 70 = .ok (.iload_n 1, 1) := by decide +kernel
theorem dX1_perform_71 : decode cX1_perform 71 = .ok (.aaload, 1) := by decide +kernel
theorem dX1_perform_72 : decode cX1_perform 72 = .ok (.getfield 208, 3) := by decide +kernel
theorem dX1_perform_75 : decode cX1_perform 75 = .ok (.iconst 1, 1) := by decide +kernel
theorem dX1_perform_76 : decode cX1_perform 76 = .ok (.if_icmp .ne 16, 3) := by decide +kernel
theorem dX1_perform_79 : decode cX1_perform 79 = .ok (.aload_n 0, 1) := by decide +kernel
theorem dX1_perform_80 : decode cX1_perform 80 = .ok (.iload_n 2, 1) := by decide +kernel
theorem dX1_perform_81 : decode cX1_perform 81 = .ok (.iload_n 3, 1) := by decide +kernel
theorem dX1_perform_82 : decode cX1_perform 82 = .ok (.iload 4, 2) := by decide +kernel
theorem dX1_perform_84 : decode cX1_perform 84 = .ok (.iload 5, 2) := by decide +kernel
theorem dX1_perform_86 : decode cX1_perform 86 = .ok (.invokevirtual 499, 3) := by decide +kernel
theorem dX1_perform_89 : decode cX1_perform 89 = .ok (.ifCond .ne 5, 3) := by decide +kernel
theorem dX1_perform_92 : decode cX1_perform 92 = .ok (.iconst (-1), 1) := by decide +kernel
theorem dX1_perform_93 : decode cX1_perform 93 = .ok (.ireturn, 1) := by decide +kernel
theorem dX1_perform_94 : decode cX1_perform 94 = .ok (.aload_n 0, 1) := by decide +kernel
theorem dX1_perform_95 : decode cX1_perform 95 = .ok (.aload_n 0, 1) := by decide +kernel
theorem dX1_perform_96 : decode cX1_perform 96 = .ok (.getfield 39, 3) := by decide +kernel
theorem dX1_perform_99 : decode cX1_perform 99 = .ok (.iload_n 1, 1) := by decide +kernel
theorem dX1_perform_100 : decode cX1_perform 100 = .ok (.aaload, 1) := by decide +kernel
theorem dX1_perform_101 : decode cX1_perform 101 = .ok (.putfield 371, 3) := by decide +kernel
theorem dX1_perform_104 : decode cX1_perform 104 = .ok (.aload_n 0, 1) := by decide +kernel
theorem dX1_perform_105 : decode cX1_perform 105 = .ok (.getfield 371, 3) := by decide +kernel
theorem dX1_perform_108 : decode cX1_perform 108 = .ok (.getfield 357, 3) := by decide +kernel
theorem dX1_perform_111 : decode cX1_perform 111 = .ok (.ifCond .eq 14, 3) := by decide +kernel
theorem dX1_perform_114 : decode cX1_perform 114 = .ok (.aload_n 0, 1) := by decide +kernel
theorem dX1_perform_115 : decode cX1_perform 115 = .ok (.getfield 371, 3) := by decide +kernel
theorem dX1_perform_118 : decode cX1_perform 118 = .ok (.iconst 0, 1) := by decide +kernel
theorem dX1_perform_119 : decode cX1_perform 119 = .ok (.putfield 357, 3) := by decide +kernel
theorem dX1_perform_122 : decode cX1_perform 122 = .ok (.bipush (-9), 2) := by decide +kernel
theorem dX1_perform_124 : decode cX1_perform 124 = .ok (.ireturn, 1) := by decide +kernel
theorem dX1_perform_125 : decode cX1_perform 125 = .ok (.aload_n 0, 1) := by decide +kernel
theorem dX1_perform_126 : decode cX1_perform 126 = .ok (.getfield 371, 3) := by decide +kernel
theorem dX1_perform_129 : decode cX1_perform 129 = .ok (.getfield 503, 3) := by decide +kernel
theorem dX1_perform_132 : decode cX1_perform 132 = .ok (.ifCond .eq 18, 3) := by decide +kernel
theorem dX1_perform_135 : decode cX1_perform 135 = .ok (.iload_n 2, 1) := by decide +kernel
theorem dX1_perform_136 : decode cX1_perform 136 = .ok (.bipush 22, 2) := by decide +kernel
theorem dX1_perform_138 : decode cX1_perform 138 = .ok (.if_icmp .eq 12, 3) := by decide +kernel
theorem dX1_perform_141 : decode cX1_perform 141 = .ok (.iload_n 2, 1) := by decide +kernel
theorem dX1_perform_142 : decode cX1_perform 142 = .ok (.bipush 23, 2) := by decide +kernel
theorem dX1_perform_144 : decode cX1_perform 144 = .ok (.if_icmp .eq 6, 3) := by decide +kernel
theorem dX1_perform_147 : decode cX1_perform 147 = .ok (.bipush (-5), 2) := by decide +kernel
theorem dX1_perform_149 : decode cX1_perform 149 = .ok (.ireturn, 1) := by decide +kernel
theorem dX1_perform_150 : decode cX1_perform 150 = .ok (.aload_n 0, 1) := by decide +kernel
theorem dX1_perform_151 : decode cX1_perform 151 = .ok (.aload_n 0, 1) := by decide +kernel
theorem dX1_perform_152 : decode cX1_perform 152 = .ok (.getfield 371, 3) := by decide +kernel
theorem dX1_perform_155 : decode cX1_perform 155 = .ok (.invokevirtual 231, 3) := by decide +kernel
theorem dX1_perform_158 : decode cX1_perform 158 = .ok (.ifCond .ne 9, 3) := by decide +kernel
theorem dX1_perform_161 : decode cX1_perform 161 = .ok (.iload_n 2, 1) := by decide +kernel
theorem dX1_perform_162 : decode cX1_perform 162 = .ok (.bipush 21, 2) := by decide +kernel
theorem dX1_perform_164 : decode cX1_perform 164 = .ok (.if_icmp .ne 7, 3) := by decide +kernel
theorem dX1_perform_167 : decode cX1_perform 167 = .ok (.iload_n 1, 1) := by decide +kernel
theorem dX1_perform_168 : decode cX1_perform 168 = .ok (.goto 5, 3) := by decide +kernel
theorem dX1_perform_171 : decode cX1_perform 171 = .ok (.bipush 16, 2) := by decide +kernel
theorem dX1_perform_173 : decode cX1_perform 173 = .ok (.putfield 291, 3) := by decide +kernel
theorem dX1_perform_176 : decode cX1_perform 176 = .ok (.aload_n 0, 1) := by decide +kernel
theorem dX1_perform_177 : decode cX1_perform 177 = .ok (.getfield 371, 3) := by decide +kernel
theorem dX1_perform_180 : decode cX1_perform 180 = .ok (.getfield 246, 3) := by decide +kernel
theorem dX1_perform_183 : decode cX1_perform 183 = .ok (.iconst 0, 1) := by decide +kernel
theorem dX1_perform_184 : decode cX1_perform 184 = .ok (.aload_n 0, 1) := by decide +kernel
theorem dX1_perform_185 : decode cX1_perform 185 = .ok (.getfield 64, 3) := by decide +kernel
theorem dX1_perform_188 : decode cX1_perform 188 = .ok (.iconst 0, 1) := by decide +kernel
theorem dX1_perform_189 : decode cX1_perform 189 = .ok (.bipush 8, 2) := by decide +kernel
theorem dX1_perform_191 : decode cX1_perform 191 = .ok (.invokestatic 148, 3) := by decide +kernel
theorem dX1_perform_194 : decode cX1_perform 194 = .ok (.aload_n 0, 1) := by decide +kernel
theorem dX1_perform_195 : decode cX1_perform 195 = .ok (.iconst (-1), 1) := by decide +kernel
theorem dX1_perform_196 : decode cX1_perform 196 = .ok (.putfield 67, 3) := by decide +kernel
theorem dX1_perform_199 : decode cX1_perform 199 = .ok (.aload_n 0, 1) := by decide +kernel
theorem dX1_perform_200 : decode cX1_perform 200 = .ok (.iload_n 2, 1) := by decide +kernel
theorem dX1_perform_201 : decode cX1_perform 201 = .ok (.iload_n 3, 1) := by decide +kernel
theorem dX1_perform_202 : decode cX1_perform 202 = .ok (.iload 4, 2) := by decide +kernel
theorem dX1_perform_204 : decode cX1_perform 204 = .ok (.iload 5, 2) := by decide +kernel
theorem dX1_perform_206 : decode cX1_perform 206 = .ok (.invokevirtual 506, 3) := by decide +kernel
theorem dX1_perform_209 : decode cX1_perform 209 = .ok (.istore 7, 2) := by decide +kernel
theorem dX1_perform_211 : decode cX1_perform 211 = .ok (.aload_n 0, 1) := by decide +kernel
theorem dX1_perform_212 : decode cX1_perform 212 = .ok (.getfield 291, 3) := by decide +kernel
theorem dX1_perform_215 : decode cX1_perform 215 = .ok (.bipush 16, 2) := by decide +kernel
theorem dX1_perform_217 : decode cX1_perform 217 = .ok (.if_icmp .ne 11, 3) := by decide +kernel
theorem dX1_perform_220 : decode cX1_perform 220 = .ok (.aload_n 0, 1) := by decide +kernel
theorem dX1_perform_221 : decode cX1_perform 221 = .ok (.iload 7, 2) := by decide +kernel
theorem dX1_perform_223 : decode cX1_perform 223 = .ok (.invokevirtual 510, 3) := by decide +kernel
theorem dX1_perform_226 : decode cX1_perform 226 = .ok (.istore 7, 2) := by decide +kernel
theorem dX1_perform_228 : decode cX1_perform 228 = .ok (.goto 66, 3) := by decide +kernel
theorem dX1_perform_231 : decode cX1_perform 231 = .ok (.astore 8, 2) := by decide +kernel
theorem dX1_perform_233 : decode cX1_perform 233 = .ok (.aload 8, 2) := by decide +kernel
theorem dX1_perform_235 : decode cX1_perform 235 = .ok (.getfield 514, 3) := by decide +kernel
theorem dX1_perform_238 : decode cX1_perform 238 = .ok (.istore 7, 2) := by decide +kernel
theorem dX1_perform_240 : decode cX1_perform 240 = .ok (.aload_n 0, 1) := by decide +kernel
theorem dX1_perform_241 : decode cX1_perform 241 = .ok (.getfield 291, 3) := by decide +kernel
theorem dX1_perform_244 : decode cX1_perform 244 = .ok (.bipush 16, 2) := by decide +kernel
theorem dX1_perform_246 : decode cX1_perform 246 = .ok (.if_icmp .ne 12, 3) := by decide +kernel
theorem dX1_perform_249 : decode cX1_perform 249 = .ok (.aload_n 0, 1) := by decide +kernel
theorem dX1_perform_250 : decode cX1_perform 250 = .ok (.bipush 16, 2) := by decide +kernel
theorem dX1_perform_252 : decode cX1_perform 252 = .ok (.invokevirtual 349, 3) := by decide +kernel
theorem dX1_perform_255 : decode cX1_perform 255 = .ok (.goto 18, 3) := by decide +kernel
theorem dX1_perform_258 : decode cX1_perform 258 = .ok (.iload 7, 2) := by decide +kernel
theorem dX1_perform_260 : decode cX1_perform 260 = .ok (.bipush (-9), 2) := by decide +kernel
theorem dX1_perform_262 : decode cX1_perform 262 = .ok (.if_icmp .ne 11, 3) := by decide +kernel
theorem dX1_perform_265 : decode cX1_perform 265 = .ok (.aload_n 0, 1) := by decide +kernel
theorem dX1_perform_266 : decode cX1_perform 266 = .ok (.aload_n 0, 1) := by decide +kernel
theorem dX1_perform_267 : decode cX1_perform 267 = .ok (.getfield 371, 3) := by decide +kernel
theorem dX1_perform_270 : decode cX1_perform 270 = .ok (.invokevirtual 353, 3) := by decide +kernel
theorem dX1_perform_273 : decode cX1_perform 273 = .ok (.aload_n 0, 1) := by decide +kernel
theorem dX1_perform_274 : decode cX1_perform 274 = .ok (.dup, 1) := by decide +kernel
theorem dX1_perform_275 : decode cX1_perform 275 = .ok (.getfield 176, 3) := by decide +kernel
theorem dX1_perform_278 : decode cX1_perform 278 = .ok (.iload 7, 2) := by decide +kernel
theorem dX1_perform_280 : decode cX1_perform 280 = .ok (.bipush (-8), 2) := by decide +kernel
theorem dX1_perform_282 : decode cX1_perform 282 = .ok (.if_icmp .ne 7, 3) := by decide +kernel
theorem dX1_perform_285 : decode cX1_perform 285 = .ok (.iconst 1, 1) := by decide +kernel
theorem dX1_perform_286 : decode cX1_perform 286 = .ok (.goto 4, 3) := by decide +kernel
theorem dX1_perform_289 : decode cX1_perform 289 = .ok (.iconst 0, 1) := by decide +kernel
theorem dX1_perform_290 : decode cX1_perform 290 = .ok (.iadd, 1) := by decide +kernel
theorem dX1_perform_291 : decode cX1_perform 291 = .ok (.putfield 176, 3) := by decide +kernel
theorem dX1_perform_294 : decode cX1_perform 294 = .ok (.aload_n 0, 1) := by decide +kernel
theorem dX1_perform_295 : decode cX1_perform 295 = .ok (.iconst (-1), 1) := by decide +kernel
theorem dX1_perform_296 : decode cX1_perform 296 = .ok (.putfield 67, 3) := by decide +kernel
theorem dX1_perform_299 : decode cX1_perform 299 = .ok (.aload_n 0, 1) := by decide +kernel
theorem dX1_perform_300 : decode cX1_perform 300 = .ok (.getfield 92, 3) := by decide +kernel
theorem dX1_perform_303 : decode cX1_perform 303 = .ok (.getfield 160, 3) := by decide +kernel
theorem dX1_perform_306 : decode cX1_perform 306 = .ok (.ifCond .eq 10, 3) := by decide +kernel
theorem dX1_perform_309 : decode cX1_perform 309 = .ok (.aload_n 0, 1) := by decide +kernel
theorem dX1_perform_310 : decode cX1_perform 310 = .ok (.invokevirtual 179, 3) := by decide +kernel
theorem dX1_perform_313 : decode cX1_perform 313 = .ok (.goto 7, 3) := by decide +kernel
theorem dX1_perform_316 : decode cX1_perform 316 = .ok (.aload_n 0, 1) := by decide +kernel
theorem dX1_perform_317 : decode cX1_perform 317 = .ok (.invokevirtual 352, 3) := by decide +kernel
theorem dX1_perform_320 : decode cX1_perform 320 = .ok (.iload 7, 2) := by decide +kernel
theorem dX1_perform_322 : decode cX1_perform 322 = .ok (.ireturn, 1) := by decide +kernel
theorem kFgN {Q : Outcome → xS → Prop} {x : kX} {f t : kK} (h : f = t) (k : ∀ v' : kV, KT x v' [] → Q (.returned none) (kS f.1 f.2.1 x v')) : ∀ v' : kV, KT x v' [] → Q (.returned none) (kS t.1 t.2.1 x v') := by rw [← h]; exact k
theorem kForget_2 {N : Nat} {s : kK} : (kForget N s).2.2 = [] := rfl
set_option maxHeartbeats 4000000 in
set_option maxRecDepth 100000 in
theorem s294_pf {G : xG} {n a b : Nat} {Q : Outcome → xS → Prop} {x : kX} {I : xI} {R : xR} {v : kV} {th : List xTh} (hT : KT x v th) (hrf : kRef R x.N) {tl : Int32} (hn : 6 ≤ n) (hq : kOs Q x (kPfZ x.N (I, R, th) tl)) : X G mX1_perform n a b Q (kS I R x v) 294 [(1, .ref (x.ad 0 0)), xo, xo, xo, xo, xo, xo, (1, .int tl), xo] [] := by
  have hnb := hT.ks.nb
  unfold kPfZ at hq
  refine x_aload_n 295 dX1_perform_294 rfl rfl ?_
  refine x_iconst (v := -1) 296 dX1_perform_295 rfl rfl ?_
  refine x_puti 299 dX1_perform_296 rfl fl_X1_67 rfl rfl (hT.ks.l0 (by omega)) ?_
  refine k_nmA (v := v) (kI_xu (c := 0) rfl) fun I1 hI1 => ?_
  refine x_aload_n 300 dX1_perform_299 rfl rfl ?_
  refine x_getz 303 dX1_perform_300 rfl fl_X1_92 (hT.ks.l0 (by omega)) (hT.ks.z0_0 (by omega)) ?_
  refine x_geti 306 dX1_perform_303 rfl fl_X1_160 (hT.ks.l5 (by omega)) ?_
  refine x_vi (w := I1 5 0 7) rfl ?_
  refine x_if_eq 316 309 dX1_perform_306 (by decide) rfl (fun c306 => ?_) (fun c306 => ?_)
  · skip
    rw [if_pos (show xu I 0 0 22 (-1) 5 0 7 = 0 by rw [← hI1]; exact c306)] at hq
    refine x_aload_n 317 dX1_perform_316 rfl rfl ?_
    refine x_callV (as := []) (rest := []) (i := 0) (n' := n - 1) 320 dX1_perform_317 rfl mv_X1_352 rfl rfl (hT.ks.l0 (by omega)) (nh_perform (by omega)) (by omega) (xst (Nat.le_of_ble_eq_true rfl)) (c_X1_sweep hT hrf (by omega) ?_)
    · skip
      intro v9 hT9
      change X _ _ _ _ _ _ _ _ _ _
      refine x_iload 322 dX1_perform_320 rfl rfl ?_
      refine x_ireturn dX1_perform_322 rfl ?_
      rw [← hI1] at hq
      exact hq.ret3 hT9
  · skip
    rw [if_neg (show ¬ xu I 0 0 22 (-1) 5 0 7 = 0 by rw [← hI1]; exact c306)] at hq
    refine x_aload_n 310 dX1_perform_309 rfl rfl ?_
    obtain ⟨f_, hf_⟩ : ∃ f : kK, f = kForget x.N (I1, R, th) := ⟨_, rfl⟩
    rw [← hI1, ← hf_] at hq
    refine x_callV (as := []) (rest := []) (i := 0) (n' := n - 1) 313 dX1_perform_310 rfl mv_X1_179 rfl rfl (hT.ks.l0 (by omega)) (nh_perform (by omega)) (by omega) (xst (Nat.le_of_ble_eq_true rfl)) (c_X1_forget hT (by omega) (kFgN hf_ ?_))
    · skip
      intro v9 hT9
      change X _ _ _ _ _ _ _ _ _ _
      refine x_goto 320 dX1_perform_313 (by decide) ?_
      refine x_iload 322 dX1_perform_320 rfl rfl ?_
      refine x_ireturn dX1_perform_322 rfl ?_
      exact hq.ret (show KT x v9 f_.2.2 by rw [show f_.2.2 = [] by rw [hf_]; exact kForget_2]; exact hT9)
set_option maxHeartbeats 4000000 in
set_option maxRecDepth 100000 in
theorem s231_pf {G : xG} {n a b : Nat} {Q : Outcome → xS → Prop} {x : kX} {I : xI} {R : xR} {v : kV} {th : List xTh} (hT : KT x v th) {me : Nat} (hme16 : me < 16) (hok : kOK x.N (I, R, th) me) (hn : 7 ≤ n) (hq : kOs Q x (kCt x.N (I, R, th) me)) : X G mX1_perform n a b Q (kS I R x v) 231 [(1, .ref (x.ad 0 0)), xo, xo, xo, xo, xo, xo, xo, xo] [.ref (x.ad 3 0)] := by
  have hnb := hT.ks.nb
  unfold kCt at hq
  dsimp only at hq
  have hme : R 0 0 19 = some me := hok.2.2
  refine x_astore 233 [(1, .ref (x.ad 0 0)), xo, xo, xo, xo, xo, xo, xo, (1, .ref (x.ad 3 0))] dX1_perform_231 rfl (by decide) rfl ?_
  refine x_aload 235 dX1_perform_233 rfl rfl ?_
  refine x_geti 238 dX1_perform_235 rfl fl_X1_514 (hT.ks.l3 (by omega)) ?_
  refine x_vi (w := I 3 0 0) rfl ?_
  refine x_nmi fun x1 hx1 => ?_
  refine x_istore 240 [(1, .ref (x.ad 0 0)), xo, xo, xo, xo, xo, xo, (1, .int x1), (1, .ref (x.ad 3 0))] dX1_perform_238 rfl (by decide) rfl ?_
  refine x_aload_n 241 dX1_perform_240 rfl rfl ?_
  refine x_geti 244 dX1_perform_241 rfl fl_X1_291 (hT.ks.l0 (by omega)) ?_
  refine x_vi (w := I 0 0 21) rfl ?_
  refine x_bipush (v := 16) 246 dX1_perform_244 rfl rfl ?_
  refine x_icmp_ne 258 249 dX1_perform_246 (by decide) rfl (fun c246 => ?_) (fun c246 => ?_)
  · skip
    refine x_iload 260 dX1_perform_258 rfl rfl ?_
    refine x_bipush (v := -9) 262 dX1_perform_260 rfl rfl ?_
    refine x_icmp_ne 273 265 dX1_perform_262 (by decide) rfl (fun c262 => ?_) (fun c262 => ?_)
    · skip
      have eC : kCt1 x.N (I, R, th) me = (I, R, th) := by unfold kCt1; rw [if_neg (show ¬ (I, R, th).1 0 0 21 = 16 from c246), if_neg (show ¬ (I, R, th).1 3 0 0 = -9 by show ¬ I 3 0 0 = -9; rw [← hx1]; exact c262)]
      rw [eC] at hq
      dsimp only at hq
      refine x_aload_n 274 dX1_perform_273 rfl rfl ?_
      refine x_dup 275 dX1_perform_274 rfl rfl ?_
      refine x_geti 278 dX1_perform_275 rfl fl_X1_176 (hT.ks.l0 (by omega)) ?_
      refine x_vi (w := I 0 0 18) rfl ?_
      refine x_iload 280 dX1_perform_278 rfl rfl ?_
      refine x_bipush (v := -8) 282 dX1_perform_280 rfl rfl ?_
      refine x_icmp_ne 289 285 dX1_perform_282 (by decide) rfl (fun c282 => ?_) (fun c282 => ?_)
      · skip
        refine x_iconst (v := 0) 290 dX1_perform_289 rfl rfl ?_
        refine x_iadd 291 dX1_perform_290 rfl ?_
        refine x_puti 294 dX1_perform_291 rfl fl_X1_176 rfl rfl (hT.ks.l0 (by omega)) ?_
        refine k_nmA (v := v) (kI_xu (c := 0) rfl) fun I1 hI1 => ?_
        refine x_fgt [(1, .ref (x.ad 0 0)), xo, xo, xo, xo, xo, xo, (1, .int x1), xo] ⟨Or.inr rfl, Or.inl rfl, Or.inl rfl, Or.inl rfl, Or.inl rfl, Or.inl rfl, Or.inl rfl, Or.inr rfl, Or.inl rfl, trivial⟩ ?_
        rw [if_neg (show ¬ I 3 0 0 = -8 by rw [← hx1]; exact c282)] at hq
        rw [← hx1] at hq
        rw [hI1]
        exact s294_pf hT hok.1.2.1 (by omega) hq
      · skip
        refine x_iconst (v := 1) 286 dX1_perform_285 rfl rfl ?_
        refine x_goto 290 dX1_perform_286 (by decide) ?_
        refine x_iadd 291 dX1_perform_290 rfl ?_
        refine x_puti 294 dX1_perform_291 rfl fl_X1_176 rfl rfl (hT.ks.l0 (by omega)) ?_
        refine k_nmA (v := v) (kI_xu (c := 0) rfl) fun I1 hI1 => ?_
        refine x_fgt [(1, .ref (x.ad 0 0)), xo, xo, xo, xo, xo, xo, (1, .int x1), xo] ⟨Or.inr rfl, Or.inl rfl, Or.inl rfl, Or.inl rfl, Or.inl rfl, Or.inl rfl, Or.inl rfl, Or.inr rfl, Or.inl rfl, trivial⟩ ?_
        rw [if_pos (show I 3 0 0 = -8 by rw [← hx1]; exact c282)] at hq
        rw [← hx1] at hq
        rw [hI1]
        exact s294_pf hT hok.1.2.1 (by omega) hq
    · skip
      refine x_aload_n 266 dX1_perform_265 rfl rfl ?_
      refine x_aload_n 267 dX1_perform_266 rfl rfl ?_
      refine x_gets 270 dX1_perform_267 rfl fl_X1_371 (hT.ks.l0 (by omega)) hme ?_
      obtain ⟨q_, hqd⟩ : ∃ q : kK, q = kAbort x.N (I, R, th) me := ⟨_, rfl⟩
      have hKq : KI q_ x.N th.length := by rw [hqd]; exact hok.ki.abort
      refine x_callV (as := [.ref (x.ad 9 me)]) (rest := []) (i := 0) (n' := n - 1) 273 dX1_perform_270 rfl mv_X1_353 rfl rfl (hT.ks.l0 (by omega)) (nh_perform (by omega)) (by omega) (xst (Nat.le_of_ble_eq_true rfl)) (c_X1_abort (p := me) hT hok.ki hme16 (by omega) (kAbN hqd ?_))
      · skip
        intro wq hUq
        change X _ _ _ _ _ _ _ _ _ _
        have eC : kCt1 x.N (I, R, th) me = q_ := by unfold kCt1; rw [if_neg (show ¬ (I, R, th).1 0 0 21 = 16 from c246), if_pos (show (I, R, th).1 3 0 0 = -9 by show I 3 0 0 = -9; rw [← hx1]; exact c262)]; exact hqd.symm
        rw [eC] at hq
        refine x_aload_n 274 dX1_perform_273 rfl rfl ?_
        refine x_dup 275 dX1_perform_274 rfl rfl ?_
        refine x_geti 278 dX1_perform_275 rfl fl_X1_176 (hUq.ks.l0 (by omega)) ?_
        refine x_vi (w := q_.1 0 0 18) rfl ?_
        refine x_iload 280 dX1_perform_278 rfl rfl ?_
        refine x_bipush (v := -8) 282 dX1_perform_280 rfl rfl ?_
        refine x_icmp_ne 289 285 dX1_perform_282 (by decide) rfl (fun c282 => ?_) (fun c282 => ?_)
        · skip
          refine x_iconst (v := 0) 290 dX1_perform_289 rfl rfl ?_
          refine x_iadd 291 dX1_perform_290 rfl ?_
          refine x_puti 294 dX1_perform_291 rfl fl_X1_176 rfl rfl (hUq.ks.l0 (by omega)) ?_
          refine k_nmA (v := wq) (kI_xu (c := 0) rfl) fun I1 hI1 => ?_
          refine x_fgt [(1, .ref (x.ad 0 0)), xo, xo, xo, xo, xo, xo, (1, .int x1), xo] ⟨Or.inr rfl, Or.inl rfl, Or.inl rfl, Or.inl rfl, Or.inl rfl, Or.inl rfl, Or.inl rfl, Or.inr rfl, Or.inl rfl, trivial⟩ ?_
          rw [if_neg (show ¬ I 3 0 0 = -8 by rw [← hx1]; exact c282)] at hq
          rw [← hx1] at hq
          rw [hI1]
          exact s294_pf hUq hKq.rf (by omega) hq
        · skip
          refine x_iconst (v := 1) 286 dX1_perform_285 rfl rfl ?_
          refine x_goto 290 dX1_perform_286 (by decide) ?_
          refine x_iadd 291 dX1_perform_290 rfl ?_
          refine x_puti 294 dX1_perform_291 rfl fl_X1_176 rfl rfl (hUq.ks.l0 (by omega)) ?_
          refine k_nmA (v := wq) (kI_xu (c := 0) rfl) fun I1 hI1 => ?_
          refine x_fgt [(1, .ref (x.ad 0 0)), xo, xo, xo, xo, xo, xo, (1, .int x1), xo] ⟨Or.inr rfl, Or.inl rfl, Or.inl rfl, Or.inl rfl, Or.inl rfl, Or.inl rfl, Or.inl rfl, Or.inr rfl, Or.inl rfl, trivial⟩ ?_
          rw [if_pos (show I 3 0 0 = -8 by rw [← hx1]; exact c282)] at hq
          rw [← hx1] at hq
          rw [hI1]
          exact s294_pf hUq hKq.rf (by omega) hq
  · skip
    refine x_aload_n 250 dX1_perform_249 rfl rfl ?_
    refine x_bipush (v := 16) 252 dX1_perform_250 rfl rfl ?_
    obtain ⟨u_, hu_⟩ : ∃ u : xI × xR, u = kUndo x.N 16 th (I, R) := ⟨_, rfl⟩
    have hrU : kRef u_.2 x.N := rf_undo2 hu_ hok.1.2.1
    refine x_callV (as := [.int 16]) (rest := []) (i := 0) (n' := n - 1) 255 dX1_perform_252 rfl mv_X1_349 rfl rfl (hT.ks.l0 (by omega)) (nh_perform (by omega)) (by omega) (xst (Nat.le_of_ble_eq_true rfl)) (c_X1_undo hT hok.1.2.2.1 hok.1.1 (by omega) (kUnN hu_ ?_))
    · skip
      intro v1 hT1
      change X _ _ _ _ _ _ _ _ _ _
      refine x_goto 273 dX1_perform_255 (by decide) ?_
      have eC : kCt1 x.N (I, R, th) me = (u_.1, u_.2, thEnd th 16) := by unfold kCt1; rw [if_pos (show (I, R, th).1 0 0 21 = 16 from c246)]; show ((kUndo x.N 16 th (I, R)).1, (kUndo x.N 16 th (I, R)).2, thEnd th 16) = _; rw [← hu_]
      rw [eC] at hq
      dsimp only at hq
      refine x_aload_n 274 dX1_perform_273 rfl rfl ?_
      refine x_dup 275 dX1_perform_274 rfl rfl ?_
      refine x_geti 278 dX1_perform_275 rfl fl_X1_176 (hT1.ks.l0 (by omega)) ?_
      refine x_vi (w := u_.1 0 0 18) rfl ?_
      refine x_iload 280 dX1_perform_278 rfl rfl ?_
      refine x_bipush (v := -8) 282 dX1_perform_280 rfl rfl ?_
      refine x_icmp_ne 289 285 dX1_perform_282 (by decide) rfl (fun c282 => ?_) (fun c282 => ?_)
      · skip
        refine x_iconst (v := 0) 290 dX1_perform_289 rfl rfl ?_
        refine x_iadd 291 dX1_perform_290 rfl ?_
        refine x_puti 294 dX1_perform_291 rfl fl_X1_176 rfl rfl (hT1.ks.l0 (by omega)) ?_
        refine k_nmA (v := v1) (kI_xu (c := 0) rfl) fun I1 hI1 => ?_
        refine x_fgt [(1, .ref (x.ad 0 0)), xo, xo, xo, xo, xo, xo, (1, .int x1), xo] ⟨Or.inr rfl, Or.inl rfl, Or.inl rfl, Or.inl rfl, Or.inl rfl, Or.inl rfl, Or.inl rfl, Or.inr rfl, Or.inl rfl, trivial⟩ ?_
        rw [if_neg (show ¬ I 3 0 0 = -8 by rw [← hx1]; exact c282)] at hq
        rw [← hx1] at hq
        rw [hI1]
        exact s294_pf hT1 hrU (by omega) hq
      · skip
        refine x_iconst (v := 1) 286 dX1_perform_285 rfl rfl ?_
        refine x_goto 290 dX1_perform_286 (by decide) ?_
        refine x_iadd 291 dX1_perform_290 rfl ?_
        refine x_puti 294 dX1_perform_291 rfl fl_X1_176 rfl rfl (hT1.ks.l0 (by omega)) ?_
        refine k_nmA (v := v1) (kI_xu (c := 0) rfl) fun I1 hI1 => ?_
        refine x_fgt [(1, .ref (x.ad 0 0)), xo, xo, xo, xo, xo, xo, (1, .int x1), xo] ⟨Or.inr rfl, Or.inl rfl, Or.inl rfl, Or.inl rfl, Or.inl rfl, Or.inl rfl, Or.inl rfl, Or.inr rfl, Or.inl rfl, trivial⟩ ?_
        rw [if_pos (show I 3 0 0 = -8 by rw [← hx1]; exact c282)] at hq
        rw [← hx1] at hq
        rw [hI1]
        exact s294_pf hT1 hrU (by omega) hq
set_option maxHeartbeats 4000000 in
set_option maxRecDepth 100000 in
theorem s209_pf {G : xG} {n a b : Nat} {Q : Outcome → xS → Prop} {x : kX} {I : xI} {R : xR} {v : kV} {th : List xTh} (hT : KT x v th) {me : Nat} (hme16 : me < 16) {D Lg : Nat} {tl : Int32} (hok : kOK x.N (I, R, th) me) (hn : 10 ≤ n) (hq : kOs Q x (kPf2 x.N x.B D Lg me (I, R, th) tl)) : X G mX1_perform n a b Q (kS I R x v) 209 [(1, .ref (x.ad 0 0)), xo, xo, xo, xo, xo, xo, xo, xo] [.int tl] := by
  have hnb := hT.ks.nb
  unfold kPf2 at hq
  dsimp only at hq
  have hme : R 0 0 19 = some me := hok.2.2
  have hlen : th.length + 300 < 16384 := hok.2.1
  refine x_istore 211 [(1, .ref (x.ad 0 0)), xo, xo, xo, xo, xo, xo, (1, .int tl), xo] dX1_perform_209 rfl (by decide) rfl ?_
  refine x_aload_n 212 dX1_perform_211 rfl rfl ?_
  refine x_geti 215 dX1_perform_212 rfl fl_X1_291 (hT.ks.l0 (by omega)) ?_
  refine x_vi (w := I 0 0 21) rfl ?_
  refine x_bipush (v := 16) 217 dX1_perform_215 rfl rfl ?_
  refine x_icmp_ne 228 220 dX1_perform_217 (by decide) rfl (fun c217 => ?_) (fun c217 => ?_)
  · skip
    refine x_goto 294 dX1_perform_228 (by decide) ?_
    rw [if_neg c217] at hq
    exact s294_pf hT hok.1.2.1 (by omega) hq
  · skip
    rw [if_pos c217] at hq
    refine x_aload_n 221 dX1_perform_220 rfl rfl ?_
    refine x_iload 223 dX1_perform_221 rfl rfl ?_
    obtain ⟨r_, hd_⟩ : ∃ r : kQ, r = kFinC x.N x.B D Lg (I, R, th) me tl := ⟨_, rfl⟩
    rw [← hd_] at hq
    have hc0 : r_.1.1 = 0 ∨ r_.1.1 = 99 := by rw [hd_]; exact kFinC_c
    refine x_callVH (as := [.int tl]) (rest := []) (i := 0) (n' := n - 1) 226 dX1_perform_223 rfl mv_X1_510 rfl rfl (hT.ks.l0 (by omega)) (hd_perform (by omega) (by omega)) (by omega) (xst (Nat.le_of_ble_eq_true rfl)) (c_X1_finishCall (D := D) (Lg := Lg) (mm := th.length) hT hok.ki (by omega) hme hme16 (by omega) (kOsN hd_ ⟨fun h99 => ?_, ⟨?_, ?_⟩⟩))
    · skip
      unfold kQb at hq; rw [if_neg (by rw [h99]; decide)] at hq
      exact hq.1 h99
    · skip
      intro hz w1 hU1
      change X _ _ _ _ _ _ _ _ _ _
      unfold kQb at hq; rw [if_pos hz] at hq
      obtain ⟨hrf, hq⟩ := hq.as
      refine x_nmi fun x1 hx1 => ?_
      refine x_istore 228 [(1, .ref (x.ad 0 0)), xo, xo, xo, xo, xo, xo, (1, .int x1), xo] dX1_perform_226 rfl (by decide) rfl ?_
      refine x_goto 294 dX1_perform_228 (by decide) ?_
      rw [hx1]
      exact s294_pf hU1 hrf (by omega) hq
    · skip
      intro hz w1 hU1
      rcases hc0 with h | h
      · exact absurd h hz
      · unfold kQb at hq; rw [if_neg hz] at hq; exact absurd h hq.1
