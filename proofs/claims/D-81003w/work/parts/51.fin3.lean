set_option maxRecDepth 100000
noncomputable def kPl1 (M : Prop) (i : Nat) (K : xI) : xI := xu K 6 i 20 (cif M (K 6 i 1) (K 6 i 13))
noncomputable def kPl2 (M : Prop) (i : Nat) (w : Int32) (K : xI) : xI := xu K 6 i 21 (cif (M ∨ K 6 i 11 = w) (K 6 i 2) (K 6 i 14))
noncomputable def kPl3 (M : Prop) (i : Nat) (w : Int32) (K : xI) : xI := xu K 6 i 22 (cif (M ∨ K 6 i 12 = w) (K 6 i 3) (K 6 i 15))
noncomputable def kPl4 (i : Nat) (K : xI) : xI := cif (iDir K i) (xu K 6 i 22 (K 6 i 15)) K
def kPlS (i : Nat) (w : Int32) (K : xI) (s : Nat) : xI := if iKeptBy K i s w ≤ 0 then K else xu K 6 i 22 (nI (max (iN (K 6 i 22)) (16 * s + 16)))
noncomputable def kPl5 (S : Prop) (i : Nat) (w : Int32) (K : xI) : xI := cif S (itA (kPlS i w) K 512) K
def kPl6 (i : Nat) (K : xI) : xI := xu (xu K 6 i 24 (K 6 i 17)) 6 i 25 (K 6 i 18)
def kPl7 (i : Nat) (K : xI) : xI := xfil K 39 i 0 (iN (K 6 i 17)) (K 38 i)
noncomputable def kPl8 (M S : Prop) (i : Nat) (w : Int32) (K : xI) : xI := xu K 6 i 19 (b2i (M ∨ S ∨ K 6 i 11 = w ∨ K 6 i 12 = w))
noncomputable def kPl9 (M : Prop) (i : Nat) (K : xI) : xI := cif (¬ M ∧ K 6 i 13 = 0) (xu K 6 i 19 0) K
def kMd (I : xI) (i : Nat) (w : Int32) : Prop := I 6 i 10 = w
def kSlo (I : xI) (i : Nat) (w : Int32) : Prop := iDir I i ∧ ∃ s, s < 512 ∧ I 42 i s = w
noncomputable def kPlA (i : Nat) (w : Int32) (I : xI) : xI := kPl9 (kMd I i w) i (kPl8 (kMd I i w) (kSlo I i w) i w (kPl7 i (kPl6 i (kPl5 (kSlo I i w) i w (kPl4 i (kPl3 (kMd I i w) i w (kPl2 (kMd I i w) i w (kPl1 (kMd I i w) i I))))))))
/-- what an inode will be as finished by w; whether there are blocks enough -/
noncomputable def kPlan (B D Lg i : Nat) (w : Int32) (I : xI) : Bool × xI :=
  cif (kPlA i w I 6 i 19 = 0 ∨ kPlA i w I 6 i 21 = 0) (true, kPlA i w I) (kLay B D Lg i (kPlA i w I))
/-- what a plan needs -/
def kPw (K : xI) (N B D Lg i : Nat) : Prop := KD K N B D Lg ∧ kBw K B ∧ kLn (K 6 i 3) 8192
theorem cif_ln {p : Prop} {a b : Int32} {m : Nat} (h : kLn a m) (g : kLn b m) : kLn (cif p a b) m := by
  by_cases e : p
  · rw [cif_t e]; exact h
  · rw [cif_f e]; exact g
section PW
variable {K : xI} {N B D Lg i : Nat} {M S : Prop} {w : Int32}
theorem kPw.u {k : Nat} {v : Int32} (h : kPw K N B D Lg i) (hc : wfD B 6 k = none) (h25 : ¬ k = 25) (h3 : ¬ k = 3) : kPw (xu K 6 i k v) N B D Lg i :=
  ⟨h.1.u (by omega), h.2.1.u hc (fun e => h25 e.2), by rw [xu_k (fun e => h3 e.symm)]; exact h.2.2⟩
theorem kPw.ul {k m : Nat} {v : Int32} (h : kPw K N B D Lg i) (hc : wfD B 6 k = some m) (hv : kLn v m) (h25 : ¬ k = 25) (h3 : ¬ k = 3) : kPw (xu K 6 i k v) N B D Lg i :=
  ⟨h.1.u (by omega), h.2.1.ul hc hv (fun e => h25 e.2), by rw [xu_k (fun e => h3 e.symm)]; exact h.2.2⟩
theorem kPw.cif {A A' : xI} {p : Prop} (h : kPw A N B D Lg i) (g : kPw A' N B D Lg i) : kPw (cif p A A') N B D Lg i := by
  by_cases e : p
  · rw [cif_t e]; exact h
  · rw [cif_f e]; exact g
theorem kPw.p1 (h : kPw K N B D Lg i) : kPw (kPl1 M i K) N B D Lg i := h.u rfl (by decide) (by decide)
theorem kPw.p2 (h : kPw K N B D Lg i) : kPw (kPl2 M i w K) N B D Lg i := h.u rfl (by decide) (by decide)
theorem kPw.p3 (h : kPw K N B D Lg i) : kPw (kPl3 M i w K) N B D Lg i := h.ul rfl (cif_ln h.2.2 (h.2.1.kl i)) (by decide) (by decide)
theorem kPw.p4 (h : kPw K N B D Lg i) : kPw (kPl4 i K) N B D Lg i := (h.ul rfl (h.2.1.kl i) (by decide) (by decide)).cif h
theorem kPw.pS {s : Nat} (h : kPw K N B D Lg i) (hs : s < 512) : kPw (kPlS i w K s) N B D Lg i := by
  unfold kPlS; split
  · exact h
  · have := (h.2.1.nl i).2
    exact h.ul rfl (kLn.of (by omega) (by omega)) (by decide) (by decide)
theorem kPw.pSn (h : kPw K N B D Lg i) : ∀ n, n ≤ 512 → kPw (itA (kPlS i w) K n) N B D Lg i
  | 0, _ => h
  | n + 1, hn => (kPw.pSn h n (by omega)).pS (by omega)
theorem kPw.p5 (h : kPw K N B D Lg i) : kPw (kPl5 S i w K) N B D Lg i := (h.pSn 512 (by omega)).cif h
theorem kPw.p6 (h : kPw K N B D Lg i) : kPw (kPl6 i K) N B D Lg i := by
  have h1 := h.ul (k := 24) (v := K 6 i 17) rfl (h.2.1.mn i) (by decide) (by decide)
  exact ⟨h1.1.u (by omega), h1.2.1.ui (Or.inr (h.2.1.ind i)), by show kLn (xu _ 6 i 25 _ 6 i 3) 8192; rw [xu_k (by decide)]; exact h1.2.2⟩
theorem kPw.p7 (h : kPw K N B D Lg i) : kPw (kPl7 i K) N B D Lg i := by
  refine ⟨?_, ⟨fun c j k m e => ?_, fun j => ?_⟩, ?_⟩
  · unfold kPl7 xfil; exact h.1.ur (by decide)
  · unfold kPl7
    by_cases q : c = 39 ∧ j = i
    · obtain ⟨rfl, rfl⟩ := q
      by_cases e2 : 0 ≤ k ∧ k < iN (K 6 j 17)
      · rw [xfil_in e2]; cases e; exact h.2.1.blk j k
      · rw [xfil_out e2]; exact h.2.1.1 _ _ _ _ e
    · rw [xfil_n q]; exact h.2.1.1 _ _ _ _ e
  · unfold kPl7; rw [xfil_c (by decide)]; exact h.2.1.2 j
  · unfold kPl7; rw [xfil_c (by decide)]; exact h.2.2
theorem kPw.p8 (h : kPw K N B D Lg i) : kPw (kPl8 M S i w K) N B D Lg i := h.u rfl (by decide) (by decide)
theorem kPw.p9 (h : kPw K N B D Lg i) : kPw (kPl9 M i K) N B D Lg i := (h.u rfl (by decide) (by decide)).cif h
theorem kPw.pA (h : kPw K N B D Lg i) : kPw (kPlA i w K) N B D Lg i := by
  unfold kPlA; exact h.p1.p2.p3.p4.p5.p6.p7.p8.p9
end PW
theorem dX1_plan_0 : decode cX1_plan 0 = .ok (.aload_n 1, 1) := by decide +kernel
theorem dX1_plan_1 : decode cX1_plan 1 = .ok (.getfield 258, 3) := by decide +kernel
theorem dX1_plan_4 : decode cX1_plan 4 = .ok (.iload_n 2, 1) := by decide +kernel
theorem dX1_plan_5 : decode cX1_plan 5 = .ok (.if_icmp .ne 7, 3) := by decide +kernel
theorem dX1_plan_8 : decode cX1_plan 8 = .ok (.iconst 1, 1) := by decide +kernel
theorem dX1_plan_9 : decode cX1_plan 9 = .ok (.goto 4, 3) := by decide +kernel
theorem dX1_plan_12 : decode cX1_plan 12 = .ok (.iconst 0, 1) := by decide +kernel
theorem dX1_plan_13 : decode cX1_plan 13 = .ok (.istore_n 3, 1) := by decide +kernel
theorem dX1_plan_14 : decode cX1_plan 14 = .ok (.aload_n 1, 1) := by decide +kernel
theorem dX1_plan_15 : decode cX1_plan 15 = .ok (.invokevirtual 403, 3) := by decide +kernel
theorem dX1_plan_18 : decode cX1_plan 18 = .ok (.ifCond .eq 15, 3) := by decide +kernel
theorem dX1_plan_21 : decode cX1_plan 21 = .ok (.aload_n 1, 1) := by decide +kernel
theorem dX1_plan_22 : decode cX1_plan 22 = .ok (.iload_n 2, 1) := by decide +kernel
theorem dX1_plan_23 : decode cX1_plan 23 = .ok (.invokevirtual 406, 3) := by decide +kernel
theorem dX1_plan_26 : decode cX1_plan 26 = .ok (.ifCond .eq 7, 3) := by decide +kernel
theorem dX1_plan_29 : decode cX1_plan 29 = .ok (.iconst 1, 1) := by decide +kernel
theorem dX1_plan_30 : decode cX1_plan 30 = .ok (.goto 4, 3) := by decide +kernel
theorem dX1_plan_33 : decode cX1_plan 33 = .ok (.iconst 0, 1) := by decide +kernel
theorem dX1_plan_34 : decode cX1_plan 34 = .ok (.istore 4, 2) := by decide +kernel
theorem dX1_plan_36 : decode cX1_plan 36 = .ok (.aload_n 1, 1) := by decide +kernel
theorem dX1_plan_37 : decode cX1_plan 37 = .ok (.iload_n 3, 1) := by decide +kernel
theorem dX1_plan_38 : decode cX1_plan 38 = .ok (.ifCond .eq 10, 3) := by decide +kernel
theorem dX1_plan_41 : decode cX1_plan 41 = .ok (.aload_n 1, 1) := by decide +kernel
theorem dX1_plan_42 : decode cX1_plan 42 = .ok (.getfield 182, 3) := by decide +kernel
theorem dX1_plan_45 : decode cX1_plan 45 = .ok (.goto 7, 3) := by decide +kernel
theorem dX1_plan_48 : decode cX1_plan 48 = .ok (.aload_n 1, 1) := by decide +kernel
theorem dX1_plan_49 : decode cX1_plan 49 = .ok (.getfield 188, 3) := by decide +kernel
theorem dX1_plan_52 : decode cX1_plan 52 = .ok (.putfield 409, 3) := by decide +kernel
theorem dX1_plan_55 : decode cX1_plan 55 = .ok (.aload_n 1, 1) := by decide +kernel
theorem dX1_plan_56 : decode cX1_plan 56 = .ok (.iload_n 3, 1) := by decide +kernel
theorem dX1_plan_57 : decode cX1_plan 57 = .ok (.ifCond .ne 11, 3) := by decide +kernel
theorem dX1_plan_60 : decode cX1_plan 60 = .ok (.aload_n 1, 1) := by decide +kernel
theorem dX1_plan_61 : decode cX1_plan 61 = .ok (.getfield 261, 3) := by decide +kernel
theorem dX1_plan_64 : decode cX1_plan 64 = .ok (.iload_n 2, 1) := by decide +kernel
theorem dX1_plan_65 : decode cX1_plan 65 = .ok (.if_icmp .ne 10, 3) := by decide +kernel
theorem dX1_plan_68 : decode cX1_plan 68 = .ok (.aload_n 1, 1) := by decide +kernel
theorem dX1_plan_69 : decode cX1_plan 69 = .ok (.getfield 185, 3) := by decide +kernel
theorem dX1_plan_72 : decode cX1_plan 72 = .ok (.goto 7, 3) := by decide +kernel
theorem dX1_plan_75 : decode cX1_plan 75 = .ok (.aload_n 1, 1) := by decide +kernel
theorem dX1_plan_76 : decode cX1_plan 76 = .ok (.getfield 191, 3) := by decide +kernel
theorem dX1_plan_79 : decode cX1_plan 79 = .ok (.putfield 412, 3) := by decide +kernel
theorem dX1_plan_82 : decode cX1_plan 82 = .ok (.aload_n 1, 1) := by decide +kernel
theorem dX1_plan_83 : decode cX1_plan 83 = .ok (.iload_n 3, 1) := by decide +kernel
theorem dX1_plan_84 : decode cX1_plan 84 = .ok (.ifCond .ne 11, 3) := by decide +kernel
theorem dX1_plan_87 : decode cX1_plan 87 = .ok (.aload_n 1, 1) := by decide +kernel
theorem dX1_plan_88 : decode cX1_plan 88 = .ok (.getfield 294, 3) := by decide +kernel
theorem dX1_plan_91 : decode cX1_plan 91 = .ok (.iload_n 2, 1) := by decide +kernel
theorem dX1_plan_92 : decode cX1_plan 92 = .ok (.if_icmp .ne 10, 3) := by decide +kernel
theorem dX1_plan_95 : decode cX1_plan 95 = .ok (.aload_n 1, 1) := by decide +kernel
theorem dX1_plan_96 : decode cX1_plan 96 = .ok (.getfield 285, 3) := by decide +kernel
theorem dX1_plan_99 : decode cX1_plan 99 = .ok (.goto 7, 3) := by decide +kernel
theorem dX1_plan_102 : decode cX1_plan 102 = .ok (.aload_n 1, 1) := by decide +kernel
theorem dX1_plan_103 : decode cX1_plan 103 = .ok (.getfield 415, 3) := by decide +kernel
theorem dX1_plan_106 : decode cX1_plan 106 = .ok (.putfield 418, 3) := by decide +kernel
theorem dX1_plan_109 : decode cX1_plan 109 = .ok (.aload_n 1, 1) := by decide +kernel
theorem dX1_plan_110 : decode cX1_plan 110 = .ok (.invokevirtual 403, 3) := by decide +kernel
theorem dX1_plan_113 : decode cX1_plan 113 = .ok (.ifCond .eq 11, 3) := by decide +kernel
theorem dX1_plan_116 : decode cX1_plan 116 = .ok (.aload_n 1, 1) := by decide +kernel
theorem dX1_plan_117 : decode cX1_plan 117 = .ok (.aload_n 1, 1) := by decide +kernel
theorem dX1_plan_118 : decode cX1_plan 118 = .ok (.getfield 415, 3) := by decide +kernel
theorem dX1_plan_121 : decode cX1_plan 121 = .ok (.putfield 418, 3) := by decide +kernel
theorem dX1_plan_124 : decode cX1_plan 124 = .ok (.iload 4, 2) := by decide +kernel
theorem dX1_plan_126 : decode cX1_plan 126 = .ok (.ifCond .eq 49, 3) := by decide +kernel
theorem dX1_plan_129 : decode cX1_plan 129 = .ok (.iconst 0, 1) := by decide +kernel
theorem dX1_plan_130 : decode cX1_plan 130 = .ok (.istore 5, 2) := by decide +kernel
theorem dX1_plan_132 : decode cX1_plan 132 = .ok (.iload 5, 2) := by decide +kernel
theorem dX1_plan_134 : decode cX1_plan 134 = .ok (.sipush 512, 3) := by decide +kernel
theorem dX1_plan_137 : decode cX1_plan 137 = .ok (.if_icmp .ge 38, 3) := by decide +kernel
theorem dX1_plan_140 : decode cX1_plan 140 = .ok (.aload_n 1, 1) := by decide +kernel
theorem dX1_plan_141 : decode cX1_plan 141 = .ok (.iload 5, 2) := by decide +kernel
theorem dX1_plan_143 : decode cX1_plan 143 = .ok (.iload_n 2, 1) := by decide +kernel
theorem dX1_plan_144 : decode cX1_plan 144 = .ok (.invokevirtual 421, 3) := by decide +kernel
theorem dX1_plan_147 : decode cX1_plan 147 = .ok (.ifCond .le 22, 3) := by decide +kernel
theorem dX1_plan_150 : decode cX1_plan 150 = .ok (.aload_n 1, 1) := by decide +kernel
theorem dX1_plan_151 : decode cX1_plan 151 = .ok (.aload_n 1, 1) := by decide +kernel
theorem dX1_plan_152 : decode cX1_plan 152 = .ok (.getfield 418, 3) := by decide +kernel
theorem dX1_plan_155 : decode cX1_plan 155 = .ok (.bipush 16, 2) := by decide +kernel
theorem dX1_plan_157 : decode cX1_plan 157 = .ok (.iload 5, 2) := by decide +kernel
theorem dX1_plan_159 : decode cX1_plan 159 = .ok (.imul, 1) := by decide +kernel
theorem dX1_plan_160 : decode cX1_plan 160 = .ok (.bipush 16, 2) := by decide +kernel
theorem dX1_plan_162 : decode cX1_plan 162 = .ok (.iadd, 1) := by decide +kernel
theorem dX1_plan_163 : decode cX1_plan 163 = .ok (.invokestatic 425, 3) := by decide +kernel
theorem dX1_plan_166 : decode cX1_plan 166 = .ok (.putfield 418, 3) := by decide +kernel
theorem dX1_plan_169 : decode cX1_plan 169 = .ok (.iinc 5 1, 3) := by decide +kernel
theorem dX1_plan_172 : decode cX1_plan 172 = .ok (.goto (-40), 3) := by decide +kernel
theorem dX1_plan_175 : decode cX1_plan 175 = .ok (.aload_n 1, 1) := by decide +kernel
theorem dX1_plan_176 : decode cX1_plan 176 = .ok (.aload_n 1, 1) := by decide +kernel
theorem dX1_plan_177 : decode cX1_plan 177 = .ok (.getfield 394, 3) := by decide +kernel
theorem dX1_plan_180 : decode cX1_plan 180 = .ok (.putfield 430, 3) := by decide +kernel
theorem dX1_plan_183 : decode cX1_plan 183 = .ok (.aload_n 1, 1) := by decide +kernel
theorem dX1_plan_184 : decode cX1_plan 184 = .ok (.aload_n 1, 1) := by decide +kernel
theorem dX1_plan_185 : decode cX1_plan 185 = .ok (.getfield 397, 3) := by decide +kernel
theorem dX1_plan_188 : decode cX1_plan 188 = .ok (.putfield 433, 3) := by decide +kernel
theorem dX1_plan_191 : decode cX1_plan 191 = .ok (.iconst 0, 1) := by decide +kernel
theorem dX1_plan_192 : decode cX1_plan 192 = .ok (.istore 5, 2) := by decide +kernel
theorem dX1_plan_194 : decode cX1_plan 194 = .ok (.iload 5, 2) := by decide +kernel
theorem dX1_plan_196 : decode cX1_plan 196 = .ok (.aload_n 1, 1) := by decide +kernel
theorem dX1_plan_197 : decode cX1_plan 197 = .ok (.getfield 394, 3) := by decide +kernel
theorem dX1_plan_200 : decode cX1_plan 200 = .ok (.if_icmp .ge 23, 3) := by decide +kernel
theorem dX1_plan_203 : decode cX1_plan 203 = .ok (.aload_n 1, 1) := by decide +kernel
theorem dX1_plan_204 : decode cX1_plan 204 = .ok (.getfield 436, 3) := by decide +kernel
theorem dX1_plan_207 : decode cX1_plan 207 = .ok (.iload 5, 2) := by decide +kernel
theorem dX1_plan_209 : decode cX1_plan 209 = .ok (.aload_n 1, 1) := by decide +kernel
theorem dX1_plan_210 : decode cX1_plan 210 = .ok (.getfield 395, 3) := by decide +kernel
theorem dX1_plan_213 : decode cX1_plan 213 = .ok (.iload 5, 2) := by decide +kernel
theorem dX1_plan_215 : decode cX1_plan 215 = .ok (.iaload, 1) := by decide +kernel
theorem dX1_plan_216 : decode cX1_plan 216 = .ok (.iastore, 1) := by decide +kernel
theorem dX1_plan_217 : decode cX1_plan 217 = .ok (.iinc 5 1, 3) := by decide +kernel
theorem dX1_plan_220 : decode cX1_plan 220 = .ok (.goto (-26), 3) := by decide +kernel
theorem dX1_plan_223 : decode cX1_plan 223 = .ok (.aload_n 1, 1) := by decide +kernel
theorem dX1_plan_224 : decode cX1_plan 224 = .ok (.iload_n 3, 1) := by decide +kernel
theorem dX1_plan_225 : decode cX1_plan 225 = .ok (.ifCond .ne 24, 3) := by decide +kernel
theorem dX1_plan_228 : decode cX1_plan 228 = .ok (.iload 4, 2) := by decide +kernel
theorem dX1_plan_230 : decode cX1_plan 230 = .ok (.ifCond .ne 19, 3) := by decide +kernel
theorem dX1_plan_233 : decode cX1_plan 233 = .ok (.aload_n 1, 1) := by decide +kernel
theorem dX1_plan_234 : decode cX1_plan 234 = .ok (.getfield 261, 3) := by decide +kernel
theorem dX1_plan_237 : decode cX1_plan 237 = .ok (.iload_n 2, 1) := by decide +kernel
theorem dX1_plan_238 : decode cX1_plan 238 = .ok (.if_icmp .eq 11, 3) := by decide +kernel
theorem dX1_plan_241 : decode cX1_plan 241 = .ok (.aload_n 1, 1) := by decide +kernel
theorem dX1_plan_242 : decode cX1_plan 242 = .ok (.getfield 294, 3) := by decide +kernel
theorem dX1_plan_245 : decode cX1_plan 245 = .ok (.iload_n 2, 1) := by decide +kernel
theorem dX1_plan_246 : decode cX1_plan 246 = .ok (.if_icmp .ne 7, 3) := by decide +kernel
theorem dX1_plan_249 : decode cX1_plan 249 = .ok (.iconst 1, 1) := by decide +kernel
theorem dX1_plan_250 : decode cX1_plan 250 = .ok (.goto 4, 3) := by decide +kernel
theorem dX1_plan_253 : decode cX1_plan 253 = .ok (.iconst 0, 1) := by decide +kernel
theorem dX1_plan_254 : decode cX1_plan 254 = .ok (.putfield 439, 3) := by decide +kernel
theorem dX1_plan_257 : decode cX1_plan 257 = .ok (.iload_n 3, 1) := by decide +kernel
theorem dX1_plan_258 : decode cX1_plan 258 = .ok (.ifCond .ne 15, 3) := by decide +kernel
theorem dX1_plan_261 : decode cX1_plan 261 = .ok (.aload_n 1, 1) := by decide +kernel
theorem dX1_plan_262 : decode cX1_plan 262 = .ok (.getfield 188, 3) := by decide +kernel
theorem dX1_plan_265 : decode cX1_plan 265 = .ok (.ifCond .ne 8, 3) := by decide +kernel
theorem dX1_plan_268 : decode cX1_plan 268 = .ok (.aload_n 1, 1) := by decide +kernel
theorem dX1_plan_269 : decode cX1_plan 269 = .ok (.iconst 0, 1) := by decide +kernel
theorem dX1_plan_270 : decode cX1_plan 270 = .ok (.putfield 439, 3) := by decide +kernel
theorem dX1_plan_273 : decode cX1_plan 273 = .ok (.aload_n 1, 1) := by decide +kernel
theorem dX1_plan_274 : decode cX1_plan 274 = .ok (.getfield 439, 3) := by decide +kernel
theorem dX1_plan_277 : decode cX1_plan 277 = .ok (.ifCond .eq 10, 3) := by decide +kernel
theorem dX1_plan_280 : decode cX1_plan 280 = .ok (.aload_n 1, 1) := by decide +kernel
theorem dX1_plan_281 : decode cX1_plan 281 = .ok (.getfield 412, 3) := by decide +kernel
theorem dX1_plan_284 : decode cX1_plan 284 = .ok (.ifCond .ne 5, 3) := by decide +kernel
theorem dX1_plan_287 : decode cX1_plan 287 = .ok (.iconst 1, 1) := by decide +kernel
theorem dX1_plan_288 : decode cX1_plan 288 = .ok (.ireturn, 1) := by decide +kernel
theorem dX1_plan_289 : decode cX1_plan 289 = .ok (.aload_n 0, 1) := by decide +kernel
theorem dX1_plan_290 : decode cX1_plan 290 = .ok (.aload_n 1, 1) := by decide +kernel
theorem dX1_plan_291 : decode cX1_plan 291 = .ok (.invokevirtual 442, 3) := by decide +kernel
theorem dX1_plan_294 : decode cX1_plan 294 = .ok (.ireturn, 1) := by decide +kernel
set_option maxHeartbeats 4000000 in
set_option maxRecDepth 100000 in
theorem s36_plan {G : xG} {n a b : Nat} {Q : Outcome → xS → Prop} {J : xJ} {R Z : xR} {T : xT} {N B : Nat} (hk : KS Z T N B) {i : Nat} {w : Int32} {M Sl : Prop} (hi : i < N) {K : xI}  (hx : X G mX1_plan n a b Q (kPl1 M i K, J, R, Z, T) 55 [(1, .ref (T.ad 0 0)), (1, .ref (T.ad 6 i)), (1, .int w), (1, .int (b2i M)), (1, .int (b2i Sl)), xo] []) (hn : 1 ≤ n) : X G mX1_plan n a b Q (K, J, R, Z, T) 36 [(1, .ref (T.ad 0 0)), (1, .ref (T.ad 6 i)), (1, .int w), (1, .int (b2i M)), (1, .int (b2i Sl)), xo] [] := by
  refine x_aload_n 37 dX1_plan_36 rfl rfl ?_
  refine x_iload_n 38 dX1_plan_37 rfl rfl ?_
  refine x_if_eq 48 41 dX1_plan_38 (by decide) rfl (fun c38 => ?_) (fun c38 => ?_)
  · skip
    have c38 : ¬ (M) := b2i_0.mp c38
    refine x_aload_n 49 dX1_plan_48 rfl rfl ?_
    refine x_geti 52 dX1_plan_49 rfl fl_X1_188 (hk.l6 (by omega)) ?_
    refine x_puti 55 dX1_plan_52 rfl fl_X1_409 rfl rfl (hk.l6 (by omega)) ?_
    refine x_nmI fun I1 hI1 => ?_
    have e_ : I1 = kPl1 M i K := by rw [hI1]; unfold kPl1; first | rw [cif_t c38] | rw [cif_f c38]
    rw [e_]; exact hx
  · skip
    have c38 : M := b2i_n0.mp c38
    refine x_aload_n 42 dX1_plan_41 rfl rfl ?_
    refine x_geti 45 dX1_plan_42 rfl fl_X1_182 (hk.l6 (by omega)) ?_
    refine x_goto 52 dX1_plan_45 (by decide) ?_
    refine x_puti 55 dX1_plan_52 rfl fl_X1_409 rfl rfl (hk.l6 (by omega)) ?_
    refine x_nmI fun I1 hI1 => ?_
    have e_ : I1 = kPl1 M i K := by rw [hI1]; unfold kPl1; first | rw [cif_t c38] | rw [cif_f c38]
    rw [e_]; exact hx
set_option maxHeartbeats 4000000 in
set_option maxRecDepth 100000 in
theorem s55_plan {G : xG} {n a b : Nat} {Q : Outcome → xS → Prop} {J : xJ} {R Z : xR} {T : xT} {N B : Nat} (hk : KS Z T N B) {i : Nat} {w : Int32} {M Sl : Prop} (hi : i < N) {K : xI}  (hx : X G mX1_plan n a b Q (kPl2 M i w K, J, R, Z, T) 82 [(1, .ref (T.ad 0 0)), (1, .ref (T.ad 6 i)), (1, .int w), (1, .int (b2i M)), (1, .int (b2i Sl)), xo] []) (hn : 1 ≤ n) : X G mX1_plan n a b Q (K, J, R, Z, T) 55 [(1, .ref (T.ad 0 0)), (1, .ref (T.ad 6 i)), (1, .int w), (1, .int (b2i M)), (1, .int (b2i Sl)), xo] [] := by
  refine x_aload_n 56 dX1_plan_55 rfl rfl ?_
  refine x_iload_n 57 dX1_plan_56 rfl rfl ?_
  refine x_if_ne 68 60 dX1_plan_57 (by decide) rfl (fun c57 => ?_) (fun c57 => ?_)
  · skip
    have c57 : M := b2i_n0.mp c57
    refine x_aload_n 69 dX1_plan_68 rfl rfl ?_
    refine x_geti 72 dX1_plan_69 rfl fl_X1_185 (hk.l6 (by omega)) ?_
    refine x_goto 79 dX1_plan_72 (by decide) ?_
    refine x_puti 82 dX1_plan_79 rfl fl_X1_412 rfl rfl (hk.l6 (by omega)) ?_
    refine x_nmI fun I1 hI1 => ?_
    have e_ : I1 = kPl2 M i w K := by rw [hI1]; unfold kPl2; first | rw [cif_t (Or.inl c57)] | rw [cif_t (Or.inr c65)] | rw [cif_f (fun h => h.elim c57 c65)]
    rw [e_]; exact hx
  · skip
    have c57 : ¬ (M) := b2i_0.mp c57
    refine x_aload_n 61 dX1_plan_60 rfl rfl ?_
    refine x_geti 64 dX1_plan_61 rfl fl_X1_261 (hk.l6 (by omega)) ?_
    refine x_iload_n 65 dX1_plan_64 rfl rfl ?_
    refine x_icmp_ne 75 68 dX1_plan_65 (by decide) rfl (fun c65 => ?_) (fun c65 => ?_)
    · skip
      refine x_aload_n 76 dX1_plan_75 rfl rfl ?_
      refine x_geti 79 dX1_plan_76 rfl fl_X1_191 (hk.l6 (by omega)) ?_
      refine x_puti 82 dX1_plan_79 rfl fl_X1_412 rfl rfl (hk.l6 (by omega)) ?_
      refine x_nmI fun I1 hI1 => ?_
      have e_ : I1 = kPl2 M i w K := by rw [hI1]; unfold kPl2; first | rw [cif_t (Or.inl c57)] | rw [cif_t (Or.inr c65)] | rw [cif_f (fun h => h.elim c57 c65)]
      rw [e_]; exact hx
    · skip
      refine x_aload_n 69 dX1_plan_68 rfl rfl ?_
      refine x_geti 72 dX1_plan_69 rfl fl_X1_185 (hk.l6 (by omega)) ?_
      refine x_goto 79 dX1_plan_72 (by decide) ?_
      refine x_puti 82 dX1_plan_79 rfl fl_X1_412 rfl rfl (hk.l6 (by omega)) ?_
      refine x_nmI fun I1 hI1 => ?_
      have e_ : I1 = kPl2 M i w K := by rw [hI1]; unfold kPl2; first | rw [cif_t (Or.inl c57)] | rw [cif_t (Or.inr c65)] | rw [cif_f (fun h => h.elim c57 c65)]
      rw [e_]; exact hx
set_option maxHeartbeats 4000000 in
set_option maxRecDepth 100000 in
theorem s82_plan {G : xG} {n a b : Nat} {Q : Outcome → xS → Prop} {J : xJ} {R Z : xR} {T : xT} {N B : Nat} (hk : KS Z T N B) {i : Nat} {w : Int32} {M Sl : Prop} (hi : i < N) {K : xI}  (hx : X G mX1_plan n a b Q (kPl3 M i w K, J, R, Z, T) 109 [(1, .ref (T.ad 0 0)), (1, .ref (T.ad 6 i)), (1, .int w), (1, .int (b2i M)), (1, .int (b2i Sl)), xo] []) (hn : 1 ≤ n) : X G mX1_plan n a b Q (K, J, R, Z, T) 82 [(1, .ref (T.ad 0 0)), (1, .ref (T.ad 6 i)), (1, .int w), (1, .int (b2i M)), (1, .int (b2i Sl)), xo] [] := by
  refine x_aload_n 83 dX1_plan_82 rfl rfl ?_
  refine x_iload_n 84 dX1_plan_83 rfl rfl ?_
  refine x_if_ne 95 87 dX1_plan_84 (by decide) rfl (fun c84 => ?_) (fun c84 => ?_)
  · skip
    have c84 : M := b2i_n0.mp c84
    refine x_aload_n 96 dX1_plan_95 rfl rfl ?_
    refine x_geti 99 dX1_plan_96 rfl fl_X1_285 (hk.l6 (by omega)) ?_
    refine x_goto 106 dX1_plan_99 (by decide) ?_
    refine x_puti 109 dX1_plan_106 rfl fl_X1_418 rfl rfl (hk.l6 (by omega)) ?_
    refine x_nmI fun I1 hI1 => ?_
    have e_ : I1 = kPl3 M i w K := by rw [hI1]; unfold kPl3; first | rw [cif_t (Or.inl c84)] | rw [cif_t (Or.inr c92)] | rw [cif_f (fun h => h.elim c84 c92)]
    rw [e_]; exact hx
  · skip
    have c84 : ¬ (M) := b2i_0.mp c84
    refine x_aload_n 88 dX1_plan_87 rfl rfl ?_
    refine x_geti 91 dX1_plan_88 rfl fl_X1_294 (hk.l6 (by omega)) ?_
    refine x_iload_n 92 dX1_plan_91 rfl rfl ?_
    refine x_icmp_ne 102 95 dX1_plan_92 (by decide) rfl (fun c92 => ?_) (fun c92 => ?_)
    · skip
      refine x_aload_n 103 dX1_plan_102 rfl rfl ?_
      refine x_geti 106 dX1_plan_103 rfl fl_X1_415 (hk.l6 (by omega)) ?_
      refine x_puti 109 dX1_plan_106 rfl fl_X1_418 rfl rfl (hk.l6 (by omega)) ?_
      refine x_nmI fun I1 hI1 => ?_
      have e_ : I1 = kPl3 M i w K := by rw [hI1]; unfold kPl3; first | rw [cif_t (Or.inl c84)] | rw [cif_t (Or.inr c92)] | rw [cif_f (fun h => h.elim c84 c92)]
      rw [e_]; exact hx
    · skip
      refine x_aload_n 96 dX1_plan_95 rfl rfl ?_
      refine x_geti 99 dX1_plan_96 rfl fl_X1_285 (hk.l6 (by omega)) ?_
      refine x_goto 106 dX1_plan_99 (by decide) ?_
      refine x_puti 109 dX1_plan_106 rfl fl_X1_418 rfl rfl (hk.l6 (by omega)) ?_
      refine x_nmI fun I1 hI1 => ?_
      have e_ : I1 = kPl3 M i w K := by rw [hI1]; unfold kPl3; first | rw [cif_t (Or.inl c84)] | rw [cif_t (Or.inr c92)] | rw [cif_f (fun h => h.elim c84 c92)]
      rw [e_]; exact hx
set_option maxHeartbeats 4000000 in
set_option maxRecDepth 100000 in
theorem s109_plan {G : xG} {n a b : Nat} {Q : Outcome → xS → Prop} {J : xJ} {R Z : xR} {T : xT} {N B : Nat} (hk : KS Z T N B) {i : Nat} {w : Int32} {M Sl : Prop} (hi : i < N) {K : xI}  (hx : X G mX1_plan n a b Q (kPl4 i K, J, R, Z, T) 124 [(1, .ref (T.ad 0 0)), (1, .ref (T.ad 6 i)), (1, .int w), (1, .int (b2i M)), (1, .int (b2i Sl)), xo] []) (hn : 2 ≤ n) : X G mX1_plan n a b Q (K, J, R, Z, T) 109 [(1, .ref (T.ad 0 0)), (1, .ref (T.ad 6 i)), (1, .int w), (1, .int (b2i M)), (1, .int (b2i Sl)), xo] [] := by
  refine x_aload_n 110 dX1_plan_109 rfl rfl ?_
  refine x_callV (as := []) (rest := []) (i := i) (n' := n - 1) 113 dX1_plan_110 rfl mv_X1_403 rfl rfl (hk.l6 (by omega)) (xnh rfl) (by omega) (xst (Nat.le_of_ble_eq_true rfl)) (c_X7_isDirectory hk (by omega) (by omega) ?_)
  change X _ _ _ _ _ _ _ _ _ _
  refine x_if_eq 124 116 dX1_plan_113 (by decide) rfl (fun c113 => ?_) (fun c113 => ?_)
  · skip
    have c113 : ¬ (iDir K i) := b2i_0.mp c113
    have e_ : K = kPl4 i K := by unfold kPl4; first | rw [cif_t c113, hI1] | rw [cif_f c113]
    rw [e_]; exact hx
  · skip
    have c113 : iDir K i := b2i_n0.mp c113
    refine x_aload_n 117 dX1_plan_116 rfl rfl ?_
    refine x_aload_n 118 dX1_plan_117 rfl rfl ?_
    refine x_geti 121 dX1_plan_118 rfl fl_X1_415 (hk.l6 (by omega)) ?_
    refine x_puti 124 dX1_plan_121 rfl fl_X1_418 rfl rfl (hk.l6 (by omega)) ?_
    refine x_nmI fun I1 hI1 => ?_
    have e_ : I1 = kPl4 i K := by unfold kPl4; first | rw [cif_t c113, hI1] | rw [cif_f c113]
    rw [e_]; exact hx
set_option maxHeartbeats 4000000 in
set_option maxRecDepth 100000 in
theorem l132_plan {G : xG} {n a b : Nat} {Q : Outcome → xS → Prop} {J : xJ} {Z : xR} {T : xT} {R : xR} {K0_ : xI} {N B D Lg : Nat} (hk : KS Z T N B) {i : Nat} {w : Int32} {M Sl : Prop} (hi : i < N) (hP : kPw K0_ N B D Lg i) (hx : X G mX1_plan n a b Q (itA (kPlS i w) K0_ 512, J, R, Z, T) 175 [(1, .ref (T.ad 0 0)), (1, .ref (T.ad 6 i)), (1, .int w), (1, .int (b2i M)), (1, .int (b2i Sl)), xo] []) (k : Nat) (I : xI) (hn : 2 ≤ n) :
    (k ≤ 512) → (I = itA (kPlS i w) K0_ k) → X G mX1_plan n a b Q (I, J, R, Z, T) 132 [(1, .ref (T.ad 0 0)), (1, .ref (T.ad 6 i)), (1, .int w), (1, .int (b2i M)), (1, .int (b2i Sl)), (1, .int (nI k))] [] := by
  induction hm : 512 - k using Nat.strongRecOn generalizing k I with
  | _ m_ ih =>
    intro h8 hI
    have hPk : kPw I N B D Lg i := by rw [hI]; exact hP.pSn k h8
    have hnl := hPk.2.1.nl i
    have hnl2 := hnl.2
    refine x_iload 134 dX1_plan_132 rfl rfl ?_
    refine x_sipush (v := 512) 137 dX1_plan_134 rfl rfl ?_
    refine x_icmp_ge 175 140 dX1_plan_137 (by decide) rfl (fun c137 => ?_) (fun c137 => ?_)
    · skip
      have c137 : 512 ≤ k := (nI_leI (a := 512) (b := k) (by omega) (by omega)).mp c137
      refine x_fgt [(1, .ref (T.ad 0 0)), (1, .ref (T.ad 6 i)), (1, .int w), (1, .int (b2i M)), (1, .int (b2i Sl)), xo] ⟨Or.inr rfl, Or.inr rfl, Or.inr rfl, Or.inr rfl, Or.inr rfl, Or.inl rfl, trivial⟩ ?_
      have e : k = 512 := by omega
      rw [hI, e]; exact hx
    · skip
      have c137 : ¬ (512 ≤ k) := fun h => c137 ((nI_leI (a := 512) (b := k) (by omega) (by omega)).mpr h)
      refine x_aload_n 141 dX1_plan_140 rfl rfl ?_
      refine x_iload 143 dX1_plan_141 rfl rfl ?_
      refine x_iload_n 144 dX1_plan_143 rfl rfl ?_
      refine x_callV (as := [.int (nI k), .int w]) (rest := []) (i := i) (n' := n - 1) 147 dX1_plan_144 rfl mv_X1_421 rfl rfl (hk.l6 (by omega)) (xnh rfl) (by omega) (xst (Nat.le_of_ble_eq_true rfl)) (c_X7_keptBy hk (by omega) (by omega) (by omega) ?_)
      change X _ _ _ _ _ _ _ _ _ _
      refine x_if_le 169 150 dX1_plan_147 (by decide) rfl (fun c147 => ?_) (fun c147 => ?_)
      · skip
        refine x_iinc 172 [(1, .ref (T.ad 0 0)), (1, .ref (T.ad 6 i)), (1, .int w), (1, .int (b2i M)), (1, .int (b2i Sl)), (1, .int (nI (k + 1)))] dX1_plan_169 rfl (by decide) rfl (xi_1 k) rfl ?_
        refine x_goto 132 dX1_plan_172 (by decide) ?_
        exact ih _ (by rw [← hm]; omega) (k + 1) I rfl (by omega) (by show _ = kPlS i w (itA (kPlS i w) K0_ k) k; rw [← hI]; unfold kPlS; rw [if_pos (by simpa using c147)])
      · skip
        refine x_aload_n 151 dX1_plan_150 rfl rfl ?_
        refine x_aload_n 152 dX1_plan_151 rfl rfl ?_
        refine x_geti 155 dX1_plan_152 rfl fl_X1_418 (hk.l6 (by omega)) ?_
        refine x_vi (w := nI (iN (I 6 i 22))) hnl.1 ?_
        refine x_bipush (v := 16) 157 dX1_plan_155 rfl rfl ?_
        refine x_iload 159 dX1_plan_157 rfl rfl ?_
        refine x_imuln 16 k 160 dX1_plan_159 rfl rfl rfl ?_
        refine x_bipush (v := 16) 162 dX1_plan_160 rfl rfl ?_
        refine x_iaddn (16 * k) 16 163 dX1_plan_162 rfl rfl rfl ?_
        refine x_callS (as := [.int (nI (iN (I 6 i 22))), .int (nI ((16 * k) + 16))]) (rest := [.ref (T.ad 6 i)]) (n' := n - 1) 166 dX1_plan_163 rfl ms_X1_425 rfl rfl (xnh rfl) (by omega) (xst (Nat.le_of_ble_eq_true rfl)) (c_J3_max (by omega) (by omega) (by omega) ?_)
        change X _ _ _ _ _ _ _ _ _ _
        refine x_puti 169 dX1_plan_166 rfl fl_X1_418 rfl rfl (hk.l6 (by omega)) ?_
        refine x_nmI fun I1 hI1 => ?_
        refine x_iinc 172 [(1, .ref (T.ad 0 0)), (1, .ref (T.ad 6 i)), (1, .int w), (1, .int (b2i M)), (1, .int (b2i Sl)), (1, .int (nI (k + 1)))] dX1_plan_169 rfl (by decide) rfl (xi_1 k) rfl ?_
        refine x_goto 132 dX1_plan_172 (by decide) ?_
        exact ih _ (by rw [← hm]; omega) (k + 1) I1 rfl (by omega) (by show _ = kPlS i w (itA (kPlS i w) K0_ k) k; rw [← hI]; unfold kPlS; rw [if_neg (by simpa using c147)]; exact hI1)
set_option maxHeartbeats 4000000 in
set_option maxRecDepth 100000 in
theorem s124_plan {G : xG} {n a b : Nat} {Q : Outcome → xS → Prop} {J : xJ} {R Z : xR} {T : xT} {N B D Lg : Nat} (hk : KS Z T N B) {i : Nat} {w : Int32} {M Sl : Prop} (hi : i < N) {K : xI} (hP : kPw K N B D Lg i) (hx : X G mX1_plan n a b Q (kPl5 Sl i w K, J, R, Z, T) 175 [(1, .ref (T.ad 0 0)), (1, .ref (T.ad 6 i)), (1, .int w), (1, .int (b2i M)), (1, .int (b2i Sl)), xo] []) (hn : 2 ≤ n) : X G mX1_plan n a b Q (K, J, R, Z, T) 124 [(1, .ref (T.ad 0 0)), (1, .ref (T.ad 6 i)), (1, .int w), (1, .int (b2i M)), (1, .int (b2i Sl)), xo] [] := by
  unfold kPl5 at hx
  refine x_iload 126 dX1_plan_124 rfl rfl ?_
  refine x_if_eq 175 129 dX1_plan_126 (by decide) rfl (fun c126 => ?_) (fun c126 => ?_)
  · skip
    have c126 : ¬ (Sl) := b2i_0.mp c126
    have e_ : K = cif Sl (itA (kPlS i w) K 512) K := by rw [cif_f c126]
    rw [e_]; exact hx
  · skip
    have c126 : Sl := b2i_n0.mp c126
    refine x_iconst (v := 0) 130 dX1_plan_129 rfl rfl ?_
    refine x_istore 132 [(1, .ref (T.ad 0 0)), (1, .ref (T.ad 6 i)), (1, .int w), (1, .int (b2i M)), (1, .int (b2i Sl)), (1, .int 0)] dX1_plan_130 rfl (by decide) rfl ?_
    refine l132_plan hk hi hP ?_ 0 K (by omega) (by omega) rfl
    rw [cif_t c126] at hx; exact hx
set_option maxHeartbeats 4000000 in
set_option maxRecDepth 100000 in
theorem l194_plan {G : xG} {n a b : Nat} {Q : Outcome → xS → Prop} {J : xJ} {Z : xR} {T : xT} {R : xR} {K0_ : xI} {N B : Nat} (hk : KS Z T N B) {i m : Nat} {w : Int32} {M Sl : Prop} (hi : i < N) (hmm : K0_ 6 i 17 = nI m ∧ m ≤ 64) (hx : X G mX1_plan n a b Q (xfil K0_ 39 i 0 m (K0_ 38 i), J, R, Z, T) 223 [(1, .ref (T.ad 0 0)), (1, .ref (T.ad 6 i)), (1, .int w), (1, .int (b2i M)), (1, .int (b2i Sl)), xo] []) (k : Nat) (I : xI) (hn : 1 ≤ n) :
    (k ≤ m) → (I = xfil K0_ 39 i 0 k (K0_ 38 i)) → X G mX1_plan n a b Q (I, J, R, Z, T) 194 [(1, .ref (T.ad 0 0)), (1, .ref (T.ad 6 i)), (1, .int w), (1, .int (b2i M)), (1, .int (b2i Sl)), (1, .int (nI k))] [] := by
  induction hm : m - k using Nat.strongRecOn generalizing k I with
  | _ m_ ih =>
    intro h8 hI
    have hnb := hk.nb
    refine x_iload 196 dX1_plan_194 rfl rfl ?_
    refine x_aload_n 197 dX1_plan_196 rfl rfl ?_
    refine x_geti 200 dX1_plan_197 rfl fl_X1_394 (hk.l6 (by omega)) ?_
    refine x_vi (w := nI m) (by rw [hI, xfil_c (by decide)]; exact hmm.1) ?_
    refine x_icmp_ge 223 203 dX1_plan_200 (by decide) rfl (fun c200 => ?_) (fun c200 => ?_)
    · skip
      have c200 : m ≤ k := (nI_leI (a := m) (b := k) (by omega) (by omega)).mp c200
      refine x_fgt [(1, .ref (T.ad 0 0)), (1, .ref (T.ad 6 i)), (1, .int w), (1, .int (b2i M)), (1, .int (b2i Sl)), xo] ⟨Or.inr rfl, Or.inr rfl, Or.inr rfl, Or.inr rfl, Or.inr rfl, Or.inl rfl, trivial⟩ ?_
      have e : k = m := by omega
      rw [hI, e]; exact hx
    · skip
      have c200 : ¬ (m ≤ k) := fun h => c200 ((nI_leI (a := m) (b := k) (by omega) (by omega)).mpr h)
      refine x_aload_n 204 dX1_plan_203 rfl rfl ?_
      refine x_getz 207 dX1_plan_204 rfl fl_X1_436 (hk.l6 (by omega)) (hk.z6_23 (by omega)) ?_
      refine x_iload 209 dX1_plan_207 rfl rfl ?_
      refine x_aload_n 210 dX1_plan_209 rfl rfl ?_
      refine x_getz 213 dX1_plan_210 rfl fl_X1_395 (hk.l6 (by omega)) (hk.z6_16 (by omega)) ?_
      refine x_iload 215 dX1_plan_213 rfl rfl ?_
      refine x_iald 216 dX1_plan_215 rfl ar_38 (hk.l38 (by omega)) (xb (hk.n38 (by omega)) (by omega) (by omega)) ?_
      refine x_iast 217 dX1_plan_216 rfl ar_39 (by decide) (by decide) (hk.l39 (by omega)) (xb (hk.n39 (by omega)) (by omega) (by omega)) ?_
      refine x_nmI fun I1 hI1 => ?_
      refine x_iinc 220 [(1, .ref (T.ad 0 0)), (1, .ref (T.ad 6 i)), (1, .int w), (1, .int (b2i M)), (1, .int (b2i Sl)), (1, .int (nI (k + 1)))] dX1_plan_217 rfl (by decide) rfl (xi_1 k) rfl ?_
      refine x_goto 194 dX1_plan_220 (by decide) ?_
      exact ih _ (by rw [← hm]; omega) (k + 1) I1 rfl (by omega) (by rw [hI1, hI, xfil_c (by decide)]; exact xfil_step (by omega) rfl)
set_option maxHeartbeats 4000000 in
set_option maxRecDepth 100000 in
theorem s175_plan {G : xG} {n a b : Nat} {Q : Outcome → xS → Prop} {J : xJ} {R Z : xR} {T : xT} {N B D Lg : Nat} (hk : KS Z T N B) {i : Nat} {w : Int32} {M Sl : Prop} (hi : i < N) {K : xI} (hP : kPw K N B D Lg i) (hx : X G mX1_plan n a b Q (kPl7 i (kPl6 i K), J, R, Z, T) 223 [(1, .ref (T.ad 0 0)), (1, .ref (T.ad 6 i)), (1, .int w), (1, .int (b2i M)), (1, .int (b2i Sl)), xo] []) (hn : 1 ≤ n) : X G mX1_plan n a b Q (K, J, R, Z, T) 175 [(1, .ref (T.ad 0 0)), (1, .ref (T.ad 6 i)), (1, .int w), (1, .int (b2i M)), (1, .int (b2i Sl)), xo] [] := by
  refine x_aload_n 176 dX1_plan_175 rfl rfl ?_
  refine x_aload_n 177 dX1_plan_176 rfl rfl ?_
  refine x_geti 180 dX1_plan_177 rfl fl_X1_394 (hk.l6 (by omega)) ?_
  refine x_puti 183 dX1_plan_180 rfl fl_X1_430 rfl rfl (hk.l6 (by omega)) ?_
  refine x_nmI fun I1 hI1 => ?_
  refine x_aload_n 184 dX1_plan_183 rfl rfl ?_
  refine x_aload_n 185 dX1_plan_184 rfl rfl ?_
  refine x_geti 188 dX1_plan_185 rfl fl_X1_397 (hk.l6 (by omega)) ?_
  refine x_puti 191 dX1_plan_188 rfl fl_X1_433 rfl rfl (hk.l6 (by omega)) ?_
  refine x_nmI fun I2 hI2 => ?_
  refine x_iconst (v := 0) 192 dX1_plan_191 rfl rfl ?_
  refine x_istore 194 [(1, .ref (T.ad 0 0)), (1, .ref (T.ad 6 i)), (1, .int w), (1, .int (b2i M)), (1, .int (b2i Sl)), (1, .int 0)] dX1_plan_192 rfl (by decide) rfl ?_
  have e6 : I2 = kPl6 i K := by rw [hI2, hI1, xu_k (by decide)]; rfl
  rw [e6]
  have hm6 := hP.p6.2.1.mn i
  refine l194_plan hk hi (m := iN (kPl6 i K 6 i 17)) hm6 ?_ 0 _ hn (by omega) (xfil_0 _ _ _ _ _).symm
  exact hx
set_option maxHeartbeats 4000000 in
set_option maxRecDepth 100000 in
theorem s223_plan {G : xG} {n a b : Nat} {Q : Outcome → xS → Prop} {J : xJ} {R Z : xR} {T : xT} {N B : Nat} (hk : KS Z T N B) {i : Nat} {w : Int32} {M Sl : Prop} (hi : i < N) {K : xI}  (hx : X G mX1_plan n a b Q (kPl8 M Sl i w K, J, R, Z, T) 257 [(1, .ref (T.ad 0 0)), (1, .ref (T.ad 6 i)), (1, .int w), (1, .int (b2i M)), (1, .int (b2i Sl)), xo] []) (hn : 1 ≤ n) : X G mX1_plan n a b Q (K, J, R, Z, T) 223 [(1, .ref (T.ad 0 0)), (1, .ref (T.ad 6 i)), (1, .int w), (1, .int (b2i M)), (1, .int (b2i Sl)), xo] [] := by
  refine x_aload_n 224 dX1_plan_223 rfl rfl ?_
  have J254 : ∀ vj_ : Int32, vj_ = b2i (M ∨ Sl ∨ K 6 i 11 = w ∨ K 6 i 12 = w) → X G mX1_plan n a b Q (K, J, R, Z, T) 254 [(1, .ref (T.ad 0 0)), (1, .ref (T.ad 6 i)), (1, .int w), (1, .int (b2i M)), (1, .int (b2i Sl)), xo] [.int vj_, .ref (T.ad 6 i)] := by
    intro vj_ hv_; subst hv_
    refine x_puti 257 dX1_plan_254 rfl fl_X1_439 (x_nz (b2i_01 _)) (x_fz0 (b2i_01 _)) (hk.l6 (by omega)) ?_
    refine x_nmI fun I1 hI1 => ?_
    have e_ : I1 = kPl8 M Sl i w K := by rw [hI1]; rfl
    rw [e_]; exact hx
  refine x_iload_n 225 dX1_plan_224 rfl rfl ?_
  refine x_if_ne 249 228 dX1_plan_225 (by decide) rfl (fun c225 => ?_) (fun c225 => ?_)
  · skip
    have c225 : M := b2i_n0.mp c225
    refine x_iconst (v := 1) 250 dX1_plan_249 rfl rfl ?_
    refine x_goto 254 dX1_plan_250 (by decide) ?_
    exact J254 _ (b2i_t (by first | exact Or.inl c225 | exact Or.inr (Or.inl c230) | exact Or.inr (Or.inr (Or.inl c238)) | exact Or.inr (Or.inr (Or.inr c246)))).symm
  · skip
    have c225 : ¬ (M) := b2i_0.mp c225
    refine x_iload 230 dX1_plan_228 rfl rfl ?_
    refine x_if_ne 249 233 dX1_plan_230 (by decide) rfl (fun c230 => ?_) (fun c230 => ?_)
    · skip
      have c230 : Sl := b2i_n0.mp c230
      refine x_iconst (v := 1) 250 dX1_plan_249 rfl rfl ?_
      refine x_goto 254 dX1_plan_250 (by decide) ?_
      exact J254 _ (b2i_t (by first | exact Or.inl c225 | exact Or.inr (Or.inl c230) | exact Or.inr (Or.inr (Or.inl c238)) | exact Or.inr (Or.inr (Or.inr c246)))).symm
    · skip
      have c230 : ¬ (Sl) := b2i_0.mp c230
      refine x_aload_n 234 dX1_plan_233 rfl rfl ?_
      refine x_geti 237 dX1_plan_234 rfl fl_X1_261 (hk.l6 (by omega)) ?_
      refine x_iload_n 238 dX1_plan_237 rfl rfl ?_
      refine x_icmp_eq 249 241 dX1_plan_238 (by decide) rfl (fun c238 => ?_) (fun c238 => ?_)
      · skip
        refine x_iconst (v := 1) 250 dX1_plan_249 rfl rfl ?_
        refine x_goto 254 dX1_plan_250 (by decide) ?_
        exact J254 _ (b2i_t (by first | exact Or.inl c225 | exact Or.inr (Or.inl c230) | exact Or.inr (Or.inr (Or.inl c238)) | exact Or.inr (Or.inr (Or.inr c246)))).symm
      · skip
        refine x_aload_n 242 dX1_plan_241 rfl rfl ?_
        refine x_geti 245 dX1_plan_242 rfl fl_X1_294 (hk.l6 (by omega)) ?_
        refine x_iload_n 246 dX1_plan_245 rfl rfl ?_
        refine x_icmp_ne 253 249 dX1_plan_246 (by decide) rfl (fun c246 => ?_) (fun c246 => ?_)
        · skip
          refine x_iconst (v := 0) 254 dX1_plan_253 rfl rfl ?_
          exact J254 _ (b2i_f (by rintro (h | h | h | h); exact c225 h; exact c230 h; exact c238 h; exact c246 h)).symm
        · skip
          refine x_iconst (v := 1) 250 dX1_plan_249 rfl rfl ?_
          refine x_goto 254 dX1_plan_250 (by decide) ?_
          exact J254 _ (b2i_t (by first | exact Or.inl c225 | exact Or.inr (Or.inl c230) | exact Or.inr (Or.inr (Or.inl c238)) | exact Or.inr (Or.inr (Or.inr c246)))).symm
set_option maxHeartbeats 4000000 in
set_option maxRecDepth 100000 in
theorem s257_plan {G : xG} {n a b : Nat} {Q : Outcome → xS → Prop} {J : xJ} {R Z : xR} {T : xT} {N B : Nat} (hk : KS Z T N B) {i : Nat} {w : Int32} {M Sl : Prop} (hi : i < N) {K : xI}  (hx : X G mX1_plan n a b Q (kPl9 M i K, J, R, Z, T) 273 [(1, .ref (T.ad 0 0)), (1, .ref (T.ad 6 i)), (1, .int w), (1, .int (b2i M)), (1, .int (b2i Sl)), xo] []) (hn : 1 ≤ n) : X G mX1_plan n a b Q (K, J, R, Z, T) 257 [(1, .ref (T.ad 0 0)), (1, .ref (T.ad 6 i)), (1, .int w), (1, .int (b2i M)), (1, .int (b2i Sl)), xo] [] := by
  refine x_iload_n 258 dX1_plan_257 rfl rfl ?_
  refine x_if_ne 273 261 dX1_plan_258 (by decide) rfl (fun c258 => ?_) (fun c258 => ?_)
  · skip
    have c258 : M := b2i_n0.mp c258
    have e_ : K = kPl9 M i K := by unfold kPl9; rw [cif_f (fun h => h.1 c258)]
    rw [e_]; exact hx
  · skip
    have c258 : ¬ (M) := b2i_0.mp c258
    refine x_aload_n 262 dX1_plan_261 rfl rfl ?_
    refine x_geti 265 dX1_plan_262 rfl fl_X1_188 (hk.l6 (by omega)) ?_
    refine x_if_ne 273 268 dX1_plan_265 (by decide) rfl (fun c265 => ?_) (fun c265 => ?_)
    · skip
      have e_ : K = kPl9 M i K := by unfold kPl9; rw [cif_f (fun h => c265 h.2)]
      rw [e_]; exact hx
    · skip
      refine x_aload_n 269 dX1_plan_268 rfl rfl ?_
      refine x_iconst (v := 0) 270 dX1_plan_269 rfl rfl ?_
      refine x_puti 273 dX1_plan_270 rfl fl_X1_439 rfl rfl (hk.l6 (by omega)) ?_
      refine x_nmI fun I1 hI1 => ?_
      have e_ : I1 = kPl9 M i K := by unfold kPl9; rw [cif_t ⟨c258, c265⟩, hI1]
      rw [e_]; exact hx
theorem oIf_01 (b : Bool) : oIf b = 0 ∨ oIf b = 1 := by cases b; exact Or.inl rfl; exact Or.inr rfl
set_option maxHeartbeats 4000000 in
set_option maxRecDepth 100000 in
theorem s273_plan {G : xG} {n a b : Nat} {Q : Outcome → xS → Prop} {J : xJ} {R Z : xR} {T : xT} {N B D Lg : Nat} (hk : KS Z T N B) {i : Nat} {w : Int32} {M Sl : Prop} (hi : i < N) {K : xI} (hP : kPw K N B D Lg i) (hq : Q (.returned (some (.int (oIf (cif (K 6 i 19 = 0 ∨ K 6 i 21 = 0) (true, K) (kLay B D Lg i K)).1)))) ((cif (K 6 i 19 = 0 ∨ K 6 i 21 = 0) (true, K) (kLay B D Lg i K)).2, J, R, Z, T)) (hn : 4 ≤ n) : X G mX1_plan n a b Q (K, J, R, Z, T) 273 [(1, .ref (T.ad 0 0)), (1, .ref (T.ad 6 i)), (1, .int w), (1, .int (b2i M)), (1, .int (b2i Sl)), xo] [] := by
  refine x_aload_n 274 dX1_plan_273 rfl rfl ?_
  refine x_geti 277 dX1_plan_274 rfl fl_X1_439 (hk.l6 (by omega)) ?_
  refine x_if_eq 287 280 dX1_plan_277 (by decide) rfl (fun c277 => ?_) (fun c277 => ?_)
  · skip
    refine x_iconst (v := 1) 288 dX1_plan_287 rfl rfl ?_
    refine x_zreturn dX1_plan_288 rfl (Or.inr rfl) ?_
    rw [cif_t (Or.inl c277)] at hq; exact hq
  · skip
    refine x_aload_n 281 dX1_plan_280 rfl rfl ?_
    refine x_geti 284 dX1_plan_281 rfl fl_X1_412 (hk.l6 (by omega)) ?_
    refine x_if_ne 289 287 dX1_plan_284 (by decide) rfl (fun c284 => ?_) (fun c284 => ?_)
    · skip
      refine x_aload_n 290 dX1_plan_289 rfl rfl ?_
      refine x_aload_n 291 dX1_plan_290 rfl rfl ?_
      refine x_callV (as := [.ref (T.ad 6 i)]) (rest := []) (i := 0) (n' := n - 1) 294 dX1_plan_291 rfl mv_X1_442 rfl rfl (hk.l0 (by omega)) (xnh rfl) (by omega) (xst (Nat.le_of_ble_eq_true rfl)) (c_X1_lay (I := K) hk hP.1 hP.2.1 hi (by omega) ?_)
      change X _ _ _ _ _ _ _ _ _ _
      refine x_zreturn dX1_plan_294 rfl (oIf_01 _) ?_
      rw [cif_f (fun h => h.elim c277 c284)] at hq; exact hq
    · skip
      refine x_iconst (v := 1) 288 dX1_plan_287 rfl rfl ?_
      refine x_zreturn dX1_plan_288 rfl (Or.inr rfl) ?_
      rw [cif_t (Or.inr c284)] at hq; exact hq
set_option maxHeartbeats 4000000 in
set_option maxRecDepth 100000 in
theorem c_X1_plan {G : xG} {n : Nat} {Q : Outcome → xS → Prop} {I : xI} {J : xJ} {R Z : xR} {T : xT} {N B D Lg : Nat} (hk : KS Z T N B) {i : Nat} {w : Int32} (hi : i < N) (hP : kPw I N B D Lg i) (hn : 4 ≤ n) (hq : Q (.returned (some (.int (oIf (kPlan B D Lg i w I).1)))) ((kPlan B D Lg i w I).2, J, R, Z, T)) : xCall G mX1_plan n [.ref (T.ad 0 0), .ref (T.ad 6 i), .int w] (I, J, R, Z, T) Q := by
  refine x_met (L0 := [(1, .ref (T.ad 0 0)), (1, .ref (T.ad 6 i)), (1, .int w), xo, xo, xo]) (by decide +kernel) rfl ⟨Nat.le_of_ble_eq_true rfl, rfl⟩ ?_
  have J13 : ∀ vj_ : Int32, vj_ = b2i (kMd I i w) → X G mX1_plan n T.nc T.ns Q (I, J, R, Z, T) 13 [(1, .ref (T.ad 0 0)), (1, .ref (T.ad 6 i)), (1, .int w), xo, xo, xo] [.int vj_] := by
    intro vj_ hv_; subst hv_
    refine x_istore_n 14 [(1, .ref (T.ad 0 0)), (1, .ref (T.ad 6 i)), (1, .int w), (1, .int (b2i (kMd I i w))), xo, xo] dX1_plan_13 rfl (by decide) rfl ?_
    have J34 : ∀ vj_ : Int32, vj_ = b2i (kSlo I i w) → X G mX1_plan n T.nc T.ns Q (I, J, R, Z, T) 34 [(1, .ref (T.ad 0 0)), (1, .ref (T.ad 6 i)), (1, .int w), (1, .int (b2i (kMd I i w))), xo, xo] [.int vj_] := by
      intro vj_ hv_; subst hv_
      refine x_istore 36 [(1, .ref (T.ad 0 0)), (1, .ref (T.ad 6 i)), (1, .int w), (1, .int (b2i (kMd I i w))), (1, .int (b2i (kSlo I i w))), xo] dX1_plan_34 rfl (by decide) rfl ?_
      refine s36_plan hk hi (s55_plan hk hi (s82_plan hk hi (s109_plan hk hi (s124_plan (D := D) (Lg := Lg) hk hi hP.p1.p2.p3.p4 (s175_plan (D := D) (Lg := Lg) hk hi hP.p1.p2.p3.p4.p5 (s223_plan hk hi (s257_plan hk hi ?_ (by omega)) (by omega)) (by omega)) (by omega)) (by omega)) (by omega)) (by omega)) (by omega)
      exact s273_plan (D := D) (Lg := Lg) hk hi hP.pA hq hn
    refine x_aload_n 15 dX1_plan_14 rfl rfl ?_
    refine x_callV (as := []) (rest := []) (i := i) (n' := n - 1) 18 dX1_plan_15 rfl mv_X1_403 rfl rfl (hk.l6 (by omega)) (xnh rfl) (by omega) (xst (Nat.le_of_ble_eq_true rfl)) (c_X7_isDirectory hk (by omega) (by omega) ?_)
    change X _ _ _ _ _ _ _ _ _ _
    refine x_if_eq 33 21 dX1_plan_18 (by decide) rfl (fun c18 => ?_) (fun c18 => ?_)
    · skip
      have c18 : ¬ (iDir I i) := b2i_0.mp c18
      refine x_iconst (v := 0) 34 dX1_plan_33 rfl rfl ?_
      exact J34 _ (b2i_f (by rintro ⟨h1, h2⟩; first | exact c18 h1 | exact c26 h2)).symm
    · skip
      have c18 : iDir I i := b2i_n0.mp c18
      refine x_aload_n 22 dX1_plan_21 rfl rfl ?_
      refine x_iload_n 23 dX1_plan_22 rfl rfl ?_
      refine x_callV (as := [.int w]) (rest := []) (i := i) (n' := n - 1) 26 dX1_plan_23 rfl mv_X1_406 rfl rfl (hk.l6 (by omega)) (xnh rfl) (by omega) (xst (Nat.le_of_ble_eq_true rfl)) (c_X7_hasSlotsOf hk (by omega) (by omega) ?_)
      change X _ _ _ _ _ _ _ _ _ _
      refine x_if_eq 33 29 dX1_plan_26 (by decide) rfl (fun c26 => ?_) (fun c26 => ?_)
      · skip
        have c26 : ¬ (∃ s, s < 512 ∧ I 42 i s = w) := b2i_0.mp c26
        refine x_iconst (v := 0) 34 dX1_plan_33 rfl rfl ?_
        exact J34 _ (b2i_f (by rintro ⟨h1, h2⟩; first | exact c18 h1 | exact c26 h2)).symm
      · skip
        have c26 : ∃ s, s < 512 ∧ I 42 i s = w := b2i_n0.mp c26
        refine x_iconst (v := 1) 30 dX1_plan_29 rfl rfl ?_
        refine x_goto 34 dX1_plan_30 (by decide) ?_
        exact J34 _ (b2i_t (⟨c18, c26⟩)).symm
  refine x_aload_n 1 dX1_plan_0 rfl rfl ?_
  refine x_geti 4 dX1_plan_1 rfl fl_X1_258 (hk.l6 (by omega)) ?_
  refine x_iload_n 5 dX1_plan_4 rfl rfl ?_
  refine x_icmp_ne 12 8 dX1_plan_5 (by decide) rfl (fun c5 => ?_) (fun c5 => ?_)
  · skip
    refine x_iconst (v := 0) 13 dX1_plan_12 rfl rfl ?_
    exact J13 _ (b2i_f (c5)).symm
  · skip
    refine x_iconst (v := 1) 9 dX1_plan_8 rfl rfl ?_
    refine x_goto 13 dX1_plan_9 (by decide) ?_
    exact J13 _ (b2i_t (c5)).symm
