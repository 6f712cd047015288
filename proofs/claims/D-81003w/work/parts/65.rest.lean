set_option maxRecDepth 100000
def kClrA (N : Nat) (w : Int32) (A : xI) : xI := itA (kClr1 w) A N
theorem kI_kClr1 {A t : xI} {w : Int32} {i : Nat} : kClr1 w (kI A t) i = kI (kClr1 w A i) t := by
  unfold kClr1
  have e : (if kI A t 6 i 12 = w then xu (kI A t) 6 i 12 (-1) else kI A t) = kI (if A 6 i 12 = w then xu A 6 i 12 (-1) else A) t := by rw [kI_xu (c := 6) rfl]; exact kI_ite
  rw [e, kI_xu (c := 6) rfl]; exact kI_ite
theorem kI_kClrA {A t : xI} {N : Nat} {w : Int32} : kClrA N w (kI A t) = kI (kClrA N w A) t := by unfold kClrA; exact kI_itA (f := kClr1 w) (fun _ _ => kI_kClr1) N
theorem kClr1_c {A : xI} {w : Int32} {i c j k : Nat} (h : ¬ (c = 6 ∧ (k = 11 ∨ k = 12))) : kClr1 w A i c j k = A c j k := by
  unfold kClr1
  have e : (if A 6 i 12 = w then xu A 6 i 12 (-1) else A) c j k = A c j k := by
    split
    · exact xu_n (fun e => h ⟨e.1, by omega⟩)
    · rfl
  generalize (if A 6 i 12 = w then xu A 6 i 12 (-1) else A) = B at e ⊢
  split
  · rw [xu_n (fun e => h ⟨e.1, by omega⟩)]; exact e
  · exact e
theorem kClrA_c {A : xI} {w : Int32} {N c j k : Nat} (h : ¬ (c = 6 ∧ (k = 11 ∨ k = 12))) : kClrA N w A c j k = A c j k := by
  unfold kClrA
  induction N with
  | zero => rfl
  | succ n ih => exact (kClr1_c h).trans ih
def kFrA (s : xI × xR) (c : Nat) : xI := if s.1 9 c 1 = 3 ∧ s.1 9 c 18 = s.1 0 0 21 then xu s.1 9 c 1 1 else s.1
def kFr0 (me : Nat) (s : xI × xR) (c : Nat) : xI × xR := if (kFrA s c 9 me 17 >>> (nI c &&& 31)) &&& 1 = 1 then (pClrI (kFrA s c) c, pClrR s.2 c) else (kFrA s c, s.2)
noncomputable def kFr2 (N : Nat) (s : kK) : Nat → kO
  | 0 => (0, s)
  | k + 1 => if (kFr2 N s k).1 = 0 then cif (iN ((kFr2 N s k).2.1 21 0 k) < 16 ∧ (kFr2 N s k).2.1 21 0 k = nI (iN ((kFr2 N s k).2.1 21 0 k))) (kPsh N (kFr2 N s k).2 (iN ((kFr2 N s k).2.1 21 0 k)) 137) (99, (kFr2 N s k).2) else kFr2 N s k
noncomputable def kFrZ (N me : Nat) (lv cd : Int32) (r : kO) : kO := if r.1 = 0 then (if lv = 0 then r else kPsh N r.2 me cd) else r
noncomputable def kFrX (N me : Nat) (r : xI × xR) (th : List xTh) : kO :=
  kFrZ N me (r.1 9 me 11) (r.1 9 me 12) (kFr2 N (pEndI (xfil r.1 21 0 0 (iN (r.1 9 me 16)) (r.1 48 me)) me, pEndR r.2 me, thEnd th (r.1 0 0 21)) (iN (r.1 9 me 16)))
/-- what of a group is no matter of the disk -/
noncomputable def kFinR (N : Nat) (s : kK) (me : Nat) : kO := kFrX N me (itS (kFr0 me) (kClrA N (s.1 0 0 21) s.1, s.2.1) 16) s.2.2
theorem kWf.clrA {A : xI} {N : Nat} {w : Int32} (h : kWf A N) : kWf (kClrA N w A) N := fun c i k m e => by
  by_cases g : c = 6 ∧ (k = 11 ∨ k = 12)
  · obtain ⟨rfl, rfl | rfl⟩ := g <;> cases e
  · rw [kClrA_c g]; exact h c i k m e
theorem kNum.clrA {A : xI} {N M : Nat} {w : Int32} (h : kNum A N) : kNum (kClrA M w A) N := ⟨fun i hi => by rw [kClrA_c (by omega)]; exact h.1 i hi, fun p hp => by rw [kClrA_c (by omega)]; exact h.2 p hp⟩
theorem KI.fr0 {A : xI} {C : xR} {th : List xTh} {N m me : Nat} (h : KI (A, C, th) N m) : ∀ n, KI ((itS (kFr0 me) (A, C) n).1, (itS (kFr0 me) (A, C) n).2, th) N m ∧ kCx C (itS (kFr0 me) (A, C) n).2
  | 0 => ⟨h, kCx.rfl⟩
  | n + 1 => by
    obtain ⟨h1, h2⟩ := KI.fr0 (me := me) h n
    show KI ((kFr0 me (itS (kFr0 me) (A, C) n) n).1, (kFr0 me (itS (kFr0 me) (A, C) n) n).2, th) N m ∧ kCx C (kFr0 me (itS (kFr0 me) (A, C) n) n).2
    generalize itS (kFr0 me) (A, C) n = r at h1 h2
    have hA : kWf (kFrA r n) N ∧ kNum (kFrA r n) N := by
      unfold kFrA
      split
      · exact ⟨h1.wf.u rfl, ⟨fun i hi => by rw [xu_c (by decide)]; exact h1.nm.1 i hi, fun p hp => by rw [xu_k (by decide)]; exact h1.nm.2 p hp⟩⟩
      · exact ⟨h1.wf, h1.nm⟩
    unfold kFr0
    split
    · exact ⟨KI.of hA.1.pClr h1.rf.pClr h1.ok (hA.2.fx fx_pClr) h1.ln, h2.trans cx_pClr⟩
    · exact ⟨KI.of hA.1 h1.rf h1.ok hA.2 h1.ln, h2⟩
theorem KI.fr2 {s : kK} {N m : Nat} (h : KI s N m) : ∀ k, KI (kFr2 N s k).2 N m ∧ kCx s.2.1 (kFr2 N s k).2.2.1
  | 0 => ⟨h, kCx.rfl⟩
  | k + 1 => by
    obtain ⟨h1, h2⟩ := KI.fr2 h k
    unfold kFr2
    generalize kFr2 N s k = r at h1 h2
    by_cases e : r.1 = 0
    · rw [if_pos e]
      by_cases e2 : iN (r.2.1 21 0 k) < 16 ∧ r.2.1 21 0 k = nI (iN (r.2.1 21 0 k))
      · rw [cif_t e2]
        have h3 := KI.push (p := iN (r.2.1 21 0 k)) (cd := 137) h1
        exact ⟨h3.1, h2.trans h3.2⟩
      · rw [cif_f e2]; exact ⟨h1, h2⟩
    · rw [if_neg e]; exact ⟨h1, h2⟩
theorem kFr2_stop {N : Nat} {s : kK} {k : Nat} (h : ¬ (kFr2 N s k).1 = 0) : ∀ j, kFr2 N s (k + j) = kFr2 N s k
  | 0 => rfl
  | j + 1 => by
    show (if (kFr2 N s (k + j)).1 = 0 then _ else kFr2 N s (k + j)) = _
    rw [kFr2_stop h j, if_neg h]
theorem kFr2_s {N : Nat} {s t : kK} {k : Nat} (h : (0, t) = kFr2 N s k) : kFr2 N s (k + 1) = cif (iN (t.1 21 0 k) < 16 ∧ t.1 21 0 k = nI (iN (t.1 21 0 k))) (kPsh N t (iN (t.1 21 0 k)) 137) (99, t) := by
  unfold kFr2; rw [← h, if_pos rfl]
theorem kFrZ_99 {N me : Nat} {lv cd : Int32} {r : kO} (h : ¬ r.1 = 0) : kFrZ N me lv cd r = r := if_neg h
theorem dX1_finishRest_0 : decode cX1_finishRest 0 = .ok (.aload_n 0, 1) := by decide +kernel
theorem dX1_finishRest_1 : decode cX1_finishRest 1 = .ok (.aload_n 0, 1) := by decide +kernel
theorem dX1_finishRest_2 : decode cX1_finishRest 2 = .ok (.getfield 291, 3) := by decide +kernel
theorem dX1_finishRest_5 : decode cX1_finishRest 5 = .ok (.invokevirtual 736, 3) := by decide +kernel
theorem dX1_finishRest_8 : decode cX1_finishRest 8 = .ok (.aload_n 0, 1) := by decide +kernel
theorem dX1_finishRest_9 : decode cX1_finishRest 9 = .ok (.getfield 39, 3) := by decide +kernel
theorem dX1_finishRest_12 : decode cX1_finishRest 12 = .ok (.astore_n 1, 1) := by decide +kernel
theorem dX1_finishRest_13 : decode cX1_finishRest 13 = .ok (.aload_n 1, 1) := by decide +kernel
theorem dX1_finishRest_14 : decode cX1_finishRest 14 = .ok (.arraylength, 1) := by decide +kernel
theorem dX1_finishRest_15 : decode cX1_finishRest 15 = .ok (.istore_n 2, 1) := by decide +kernel
theorem dX1_finishRest_16 : decode cX1_finishRest 16 = .ok (.iconst 0, 1) := by decide +kernel
theorem dX1_finishRest_17 : decode cX1_finishRest 17 = .ok (.istore_n 3, 1) := by decide +kernel
theorem dX1_finishRest_18 : decode cX1_finishRest 18 = .ok (.iload_n 3, 1) := by decide +kernel
theorem dX1_finishRest_19 : decode cX1_finishRest 19 = .ok (.iload_n 2, 1) := by decide +kernel
theorem dX1_finishRest_20 : decode cX1_finishRest 20 = .ok (.if_icmp .ge 65, 3) := by decide +kernel
theorem dX1_finishRest_23 : decode cX1_finishRest 23 = .ok (.aload_n 1, 1) := by decide +kernel
theorem dX1_finishRest_24 : decode cX1_finishRest 24 = .ok (.iload_n 3, 1) := by decide +kernel
theorem dX1_finishRest_25 : decode cX1_finishRest 25 = .ok (.aaload, 1) := by decide +kernel
theorem dX1_finishRest_26 : decode cX1_finishRest 26 = .ok (.astore 4, 2) := by decide +kernel
theorem dX1_finishRest_28 : decode cX1_finishRest 28 = .ok (.aload 4, 2) := by decide +kernel
theorem dX1_finishRest_30 : decode cX1_finishRest 30 = .ok (.getfield 208, 3) := by decide +kernel
theorem dX1_finishRest_33 : decode cX1_finishRest 33 = .ok (.iconst 3, 1) := by decide +kernel
theorem dX1_finishRest_34 : decode cX1_finishRest 34 = .ok (.if_icmp .ne 21, 3) := by decide +kernel
theorem dX1_finishRest_37 : decode cX1_finishRest 37 = .ok (.aload 4, 2) := by decide +kernel
theorem dX1_finishRest_39 : decode cX1_finishRest 39 = .ok (.getfield 341, 3) := by decide +kernel
theorem dX1_finishRest_42 : decode cX1_finishRest 42 = .ok (.aload_n 0, 1) := by decide +kernel
theorem dX1_finishRest_43 : decode cX1_finishRest 43 = .ok (.getfield 291, 3) := by decide +kernel
theorem dX1_finishRest_46 : decode cX1_finishRest 46 = .ok (.if_icmp .ne 9, 3) := by decide +kernel
theorem dX1_finishRest_49 : decode cX1_finishRest 49 = .ok (.aload 4, 2) := by decide +kernel
theorem dX1_finishRest_51 : decode cX1_finishRest 51 = .ok (.iconst 1, 1) := by decide +kernel
theorem dX1_finishRest_52 : decode cX1_finishRest 52 = .ok (.putfield 208, 3) := by decide +kernel
theorem dX1_finishRest_55 : decode cX1_finishRest 55 = .ok (.aload_n 0, 1) := by decide +kernel
theorem dX1_finishRest_56 : decode cX1_finishRest 56 = .ok (.getfield 371, 3) := by decide +kernel
theorem dX1_finishRest_59 : decode cX1_finishRest 59 = .ok (.getfield 721, 3) := by decide +kernel
theorem dX1_finishRest_62 : decode cX1_finishRest 62 = .ok (.aload 4, 2) := by decide +kernel
theorem dX1_finishRest_64 : decode cX1_finishRest 64 = .ok (.getfield 346, 3) := by decide +kernel
theorem dX1_finishRest_67 : decode cX1_finishRest 67 = .ok (.ishr, 1) := by decide +kernel
theorem dX1_finishRest_68 : decode cX1_finishRest 68 = .ok (.iconst 1, 1) := by decide +kernel
theorem dX1_finishRest_69 : decode cX1_finishRest 69 = .ok (.iand, 1) := by decide +kernel
theorem dX1_finishRest_70 : decode cX1_finishRest 70 = .ok (.iconst 1, 1) := by decide +kernel
theorem dX1_finishRest_71 : decode cX1_finishRest 71 = .ok (.if_icmp .ne 8, 3) := by decide +kernel
theorem dX1_finishRest_74 : decode cX1_finishRest 74 = .ok (.aload 4, 2) := by decide +kernel
theorem dX1_finishRest_76 : decode cX1_finishRest 76 = .ok (.invokevirtual 201, 3) := by decide +kernel
theorem dX1_finishRest_79 : decode cX1_finishRest 79 = .ok (.iinc 3 1, 3) := by decide +kernel
theorem dX1_finishRest_82 : decode cX1_finishRest 82 = .ok (.goto (-64), 3) := by decide +kernel
theorem dX1_finishRest_85 : decode cX1_finishRest 85 = .ok (.aload_n 0, 1) := by decide +kernel
theorem dX1_finishRest_86 : decode cX1_finishRest 86 = .ok (.getfield 371, 3) := by decide +kernel
theorem dX1_finishRest_89 : decode cX1_finishRest 89 = .ok (.getfield 503, 3) := by decide +kernel
theorem dX1_finishRest_92 : decode cX1_finishRest 92 = .ok (.istore_n 1, 1) := by decide +kernel
theorem dX1_finishRest_93 : decode cX1_finishRest 93 = .ok (.aload_n 0, 1) := by decide +kernel
theorem dX1_finishRest_94 : decode cX1_finishRest 94 = .ok (.getfield 371, 3) := by decide +kernel
theorem dX1_finishRest_97 : decode cX1_finishRest 97 = .ok (.getfield 706, 3) := by decide +kernel
theorem dX1_finishRest_100 : decode cX1_finishRest 100 = .ok (.istore_n 2, 1) := by decide +kernel
theorem dX1_finishRest_101 : decode cX1_finishRest 101 = .ok (.aload_n 0, 1) := by decide +kernel
theorem dX1_finishRest_102 : decode cX1_finishRest 102 = .ok (.getfield 371, 3) := by decide +kernel
theorem dX1_finishRest_105 : decode cX1_finishRest 105 = .ok (.getfield 739, 3) := by decide +kernel
theorem dX1_finishRest_108 : decode cX1_finishRest 108 = .ok (.istore_n 3, 1) := by decide +kernel
theorem dX1_finishRest_109 : decode cX1_finishRest 109 = .ok (.iconst 0, 1) := by decide +kernel
theorem dX1_finishRest_110 : decode cX1_finishRest 110 = .ok (.istore 4, 2) := by decide +kernel
theorem dX1_finishRest_112 : decode cX1_finishRest 112 = .ok (.iload 4, 2) := by decide +kernel
theorem dX1_finishRest_114 : decode cX1_finishRest 114 = .ok (.iload_n 3, 1) := by decide +kernel
theorem dX1_finishRest_115 : decode cX1_finishRest 115 = .ok (.if_icmp .ge 26, 3) := by decide +kernel
theorem dX1_finishRest_118 : decode cX1_finishRest 118 = .ok (.aload_n 0, 1) := by decide +kernel
theorem dX1_finishRest_119 : decode cX1_finishRest 119 = .ok (.getfield 102, 3) := by decide +kernel
theorem dX1_finishRest_122 : decode cX1_finishRest 122 = .ok (.iload 4, 2) := by decide +kernel
theorem dX1_finishRest_124 : decode cX1_finishRest 124 = .ok (.aload_n 0, 1) := by decide +kernel
theorem dX1_finishRest_125 : decode cX1_finishRest 125 = .ok (.getfield 371, 3) := by decide +kernel
theorem dX1_finishRest_128 : decode cX1_finishRest 128 = .ok (.getfield 742, 3) := by decide +kernel
theorem dX1_finishRest_131 : decode cX1_finishRest 131 = .ok (.iload 4, 2) := by decide +kernel
theorem dX1_finishRest_133 : decode cX1_finishRest 133 = .ok (.iaload, 1) := by decide +kernel
theorem dX1_finishRest_134 : decode cX1_finishRest 134 = .ok (.iastore, 1) := by decide +kernel
theorem dX1_finishRest_135 : decode cX1_finishRest 135 = .ok (.iinc 4 1, 3) := by decide +kernel
theorem dX1_finishRest_138 : decode cX1_finishRest 138 = .ok (.goto (-26), 3) := by decide +kernel
theorem dX1_finishRest_141 : decode cX1_finishRest 141 = .ok (.aload_n 0, 1) := by decide +kernel
theorem dX1_finishRest_142 : decode cX1_finishRest 142 = .ok (.getfield 46, 3) := by decide +kernel
theorem dX1_finishRest_145 : decode cX1_finishRest 145 = .ok (.aload_n 0, 1) := by decide +kernel
theorem dX1_finishRest_146 : decode cX1_finishRest 146 = .ok (.getfield 291, 3) := by decide +kernel
theorem dX1_finishRest_149 : decode cX1_finishRest 149 = .ok (.invokevirtual 344, 3) := by decide +kernel
theorem dX1_finishRest_152 : decode cX1_finishRest 152 = .ok (.aload_n 0, 1) := by decide +kernel
theorem dX1_finishRest_153 : decode cX1_finishRest 153 = .ok (.getfield 371, 3) := by decide +kernel
theorem dX1_finishRest_156 : decode cX1_finishRest 156 = .ok (.invokevirtual 745, 3) := by decide +kernel
theorem dX1_finishRest_159 : decode cX1_finishRest 159 = .ok (.iconst 0, 1) := by decide +kernel
theorem dX1_finishRest_160 : decode cX1_finishRest 160 = .ok (.istore 4, 2) := by decide +kernel
theorem dX1_finishRest_162 : decode cX1_finishRest 162 = .ok (.iload 4, 2) := by decide +kernel
theorem dX1_finishRest_164 : decode cX1_finishRest 164 = .ok (.iload_n 3, 1) := by decide +kernel
theorem dX1_finishRest_165 : decode cX1_finishRest 165 = .ok (.if_icmp .ge 28, 3) := by decide +kernel
theorem dX1_finishRest_168 : decode cX1_finishRest 168 = .ok (.aload_n 0, 1) := by decide +kernel
theorem dX1_finishRest_169 : decode cX1_finishRest 169 = .ok (.aload_n 0, 1) := by decide +kernel
theorem dX1_finishRest_170 : decode cX1_finishRest 170 = .ok (.getfield 39, 3) := by decide +kernel
theorem dX1_finishRest_173 : decode cX1_finishRest 173 = .ok (.aload_n 0, 1) := by decide +kernel
theorem dX1_finishRest_174 : decode cX1_finishRest 174 = .ok (.getfield 102, 3) := by decide +kernel
theorem dX1_finishRest_177 : decode cX1_finishRest 177 = .ok (.iload 4, 2) := by decide +kernel
theorem dX1_finishRest_179 : decode cX1_finishRest 179 = .ok (.iaload, 1) := by decide +kernel
theorem dX1_finishRest_180 : decode cX1_finishRest 180 = .ok (.aaload, 1) := by decide +kernel
theorem dX1_finishRest_181 : decode cX1_finishRest 181 = .ok (.sipush 137, 3) := by decide +kernel
theorem dX1_finishRest_184 : decode cX1_finishRest 184 = .ok (.invokevirtual 748, 3) := by decide +kernel
theorem dX1_finishRest_187 : decode cX1_finishRest 187 = .ok (.iinc 4 1, 3) := by decide +kernel
theorem dX1_finishRest_190 : decode cX1_finishRest 190 = .ok (.goto (-28), 3) := by decide +kernel
theorem dX1_finishRest_193 : decode cX1_finishRest 193 = .ok (.iload_n 1, 1) := by decide +kernel
theorem dX1_finishRest_194 : decode cX1_finishRest 194 = .ok (.ifCond .eq 12, 3) := by decide +kernel
theorem dX1_finishRest_197 : decode cX1_finishRest 197 = .ok (.aload_n 0, 1) := by decide +kernel
theorem dX1_finishRest_198 : decode cX1_finishRest 198 = .ok (.aload_n 0, 1) := by decide +kernel
theorem dX1_finishRest_199 : decode cX1_finishRest 199 = .ok (.getfield 371, 3) := by decide +kernel
theorem dX1_finishRest_202 : decode cX1_finishRest 202 = .ok (.iload_n 2, 1) := by decide +kernel
theorem dX1_finishRest_203 : decode cX1_finishRest 203 = .ok (.invokevirtual 748, 3) := by decide +kernel
theorem dX1_finishRest_206 : decode cX1_finishRest 206 = .ok (.return_, 1) := by decide +kernel
set_option maxHeartbeats 400000 in
set_option maxRecDepth 100000 in
theorem l3_X1_finishRest {G : xG} {n a b : Nat} {Q : Outcome → xS → Prop} {x : kX} {s : kK} {mm : Nat} (hK : KI s x.N mm) {me m : Nat} {lv cd : Int32} (hm16 : m ≤ 16) (hmm : mm < 16384) (hme : s.2.1 0 0 19 = some me) (hme16 : me < 16) (hq : kOv Q x (kFrZ x.N me lv cd (kFr2 x.N s m))) (k : Nat) (I : xI) (R : xR) (th : List xTh) (v : kV) (hn : 10 ≤ n) :
    (k ≤ m) → (KT x v th) → ((0, (I, R, th)) = kFr2 x.N s k) → X G mX1_finishRest n a b Q (kS I R x v) 162 [(1, .ref (x.ad 0 0)), (1, .int lv), (1, .int cd), (1, .int (nI m)), (1, .int (nI k))] [] := by
  induction hm : m - k using Nat.strongRecOn generalizing k I R th v with
  | _ m_ ih =>
    intro h8 hT hw
    have hnb := hT.ks.nb
    have hKS := KI.fr2 hK k
    rw [← hw] at hKS
    obtain ⟨hKk, hCk⟩ := hKS
    have hmek : R 0 0 19 = some me := (hCk 0 0 19 rfl).trans hme
    refine x_iload 164 dX1_finishRest_162 rfl rfl ?_
    refine x_iload_n 165 dX1_finishRest_164 rfl rfl ?_
    refine x_icmp_ge 193 168 dX1_finishRest_165 (by decide) rfl (fun c165 => ?_) (fun c165 => ?_)
    · skip
      have c165 : m ≤ k := (nI_leI (a := m) (b := k) (by omega) (by omega)).mp c165
      have e : k = m := by omega
      rw [← e, ← hw] at hq
      unfold kFrZ at hq; rw [if_pos rfl] at hq
      refine x_iload_n 194 dX1_finishRest_193 rfl rfl ?_
      refine x_if_eq 206 197 dX1_finishRest_194 (by decide) rfl (fun c194 => ?_) (fun c194 => ?_)
      · skip
        refine x_vreturn dX1_finishRest_206 rfl ?_
        rw [if_pos c194] at hq
        exact hq.ret hT
      · skip
        rw [if_neg c194] at hq
        refine x_aload_n 198 dX1_finishRest_197 rfl rfl ?_
        refine x_aload_n 199 dX1_finishRest_198 rfl rfl ?_
        refine x_gets 202 dX1_finishRest_199 rfl fl_X1_371 (hT.ks.l0 (by omega)) hmek ?_
        refine x_iload_n 203 dX1_finishRest_202 rfl rfl ?_
        obtain ⟨r_1, hd1⟩ : ∃ r : kO, r = kPsh x.N (I, R, th) me cd := ⟨_, rfl⟩
        rw [← hd1] at hq
        refine x_callV (as := [.ref (x.ad 9 me), .int cd]) (rest := []) (i := 0) (n' := n - 1) 206 dX1_finishRest_203 rfl mv_X1_748 rfl rfl (hT.ks.l0 (by omega)) (xnh rfl) (by omega) (xst (Nat.le_of_ble_eq_true rfl)) (c_X1_push (p := me) (cd := cd) hT hKk hme16 hmm (by omega) (kOvN hd1 ⟨fun h99 => ?_, ⟨?_, ?_⟩⟩))
        · skip
          exact hq.1 h99
        · skip
          intro hz1 w1 hU1
          change X _ _ _ _ _ _ _ _ _ _
          refine x_vreturn dX1_finishRest_206 rfl ?_
          exact hq.2.1 hz1 _ hU1
        · skip
          intro hz1 w1 hU1
          exact hq.2.2 hz1 _ hU1
    · skip
      have c165 : ¬ (m ≤ k) := fun h => c165 ((nI_leI (a := m) (b := k) (by omega) (by omega)).mpr h)
      have hcc : iN (I 21 0 k) < 16 ∧ I 21 0 k = nI (iN (I 21 0 k)) := Classical.byContradiction (fun h => by
        have hs9 : kFr2 x.N s (k + 1) = (99, (I, R, th)) := by rw [kFr2_s hw]; exact cif_f h
        obtain ⟨j_, hj_⟩ : ∃ j_, m = (k + 1) + j_ := ⟨m - (k + 1), by omega⟩
        have h9 : ¬ (kFr2 x.N s (k + 1)).1 = 0 := by rw [hs9]; exact (show ¬ (99 : Int32) = 0 by decide)
        rw [hj_, kFr2_stop h9, kFrZ_99 h9, hs9] at hq
        exact hq.1 rfl)
      obtain ⟨c_, hc_⟩ : ∃ c_, c_ = iN (I 21 0 k) := ⟨_, rfl⟩
      have hc16 : c_ < 16 := by rw [hc_]; exact hcc.1
      have hce : I 21 0 k = nI c_ := by rw [hc_]; exact hcc.2
      refine x_aload_n 169 dX1_finishRest_168 rfl rfl ?_
      refine x_aload_n 170 dX1_finishRest_169 rfl rfl ?_
      refine x_getz 173 dX1_finishRest_170 rfl fl_X1_39 (hT.ks.l0 (by omega)) (hT.ks.z0_8 (by omega)) ?_
      refine x_aload_n 174 dX1_finishRest_173 rfl rfl ?_
      refine x_getz 177 dX1_finishRest_174 rfl fl_X1_102 (hT.ks.l0 (by omega)) (hT.ks.z0_3 (by omega)) ?_
      refine x_iload 179 dX1_finishRest_177 rfl rfl ?_
      refine x_iald 180 dX1_finishRest_179 rfl ar_21 (hT.ks.l21 (by omega)) (xb (hT.ks.n21 (by omega)) (by omega) (by omega)) ?_
      refine x_vi (w := I 21 0 k) rfl ?_
      refine x_vi (w := nI c_) hce ?_
      refine x_aldz 181 dX1_finishRest_180 rfl ar_26 rfl (hT.ks.l26 (by omega)) (xb (hT.ks.n26 (by omega)) (by omega) (by omega)) (hT.ks.z26 (by omega)) ?_
      refine x_sipush (v := 137) 184 dX1_finishRest_181 rfl rfl ?_
      obtain ⟨r_1, hd1⟩ : ∃ r : kO, r = kPsh x.N (I, R, th) c_ 137 := ⟨_, rfl⟩
      have hs1 : kFr2 x.N s (k + 1) = r_1 := by rw [kFr2_s hw]; show cif (iN (I 21 0 k) < 16 ∧ I 21 0 k = nI (iN (I 21 0 k))) (kPsh x.N (I, R, th) (iN (I 21 0 k)) 137) _ = _; rw [cif_t hcc, ← hc_, hd1]
      refine x_callV (as := [.ref (x.ad 9 c_), .int 137]) (rest := []) (i := 0) (n' := n - 1) 187 dX1_finishRest_184 rfl mv_X1_748 rfl rfl (hT.ks.l0 (by omega)) (xnh rfl) (by omega) (xst (Nat.le_of_ble_eq_true rfl)) (c_X1_push (p := c_) (cd := 137) hT hKk hc16 hmm (by omega) (kOvN hd1 ⟨fun h99 => ?_, ⟨?_, ?_⟩⟩))
      · skip
        obtain ⟨j_, hj_⟩ : ∃ j_, m = (k + 1) + j_ := ⟨m - (k + 1), by omega⟩
        have h9 : ¬ r_1.1 = 0 := by rw [h99]; decide
        rw [hj_, kFr2_stop (by rw [hs1]; exact h9), hs1, kFrZ_99 h9] at hq
        exact hq.1 h99
      · skip
        intro hz1 w1 hU1
        change X _ _ _ _ _ _ _ _ _ _
        refine x_iinc 190 [(1, .ref (x.ad 0 0)), (1, .int lv), (1, .int cd), (1, .int (nI m)), (1, .int (nI (k + 1)))] dX1_finishRest_187 rfl (by decide) rfl (xi_1 k) rfl ?_
        refine x_goto 162 dX1_finishRest_190 (by decide) ?_
        exact ih _ (by rw [← hm]; omega) (k + 1) r_1.2.1 r_1.2.2.1 r_1.2.2.2 w1 rfl (by omega) (hU1) (by rw [hs1, ← hz1])
      · skip
        intro hz1 w1 hU1
        obtain ⟨j_, hj_⟩ : ∃ j_, m = (k + 1) + j_ := ⟨m - (k + 1), by omega⟩
        rw [hj_, kFr2_stop (by rw [hs1]; exact hz1), hs1, kFrZ_99 hz1] at hq
        exact hq.2.2 hz1 _ hU1
set_option maxHeartbeats 400000 in
set_option maxRecDepth 100000 in
theorem l2_X1_finishRest {G : xG} {n a b : Nat} {Q : Outcome → xS → Prop} {x : kX} {I0 : xI} {R : xR} {v : kV} {th : List xTh} (hT : KT x v th) {m me : Nat} {lv cd : Int32} (hm16 : m ≤ 16) (hme : R 0 0 19 = some me) (hme16 : me < 16) (hx : X G mX1_finishRest n a b Q (kS (xfil I0 21 0 0 m (I0 48 me)) R x v) 141 [(1, .ref (x.ad 0 0)), (1, .int lv), (1, .int cd), (1, .int (nI m)), xo] []) (k : Nat) (I : xI) (hn : 1 ≤ n) :
    (k ≤ m) → (I = xfil I0 21 0 0 k (I0 48 me)) → X G mX1_finishRest n a b Q (kS I R x v) 112 [(1, .ref (x.ad 0 0)), (1, .int lv), (1, .int cd), (1, .int (nI m)), (1, .int (nI k))] [] := by
  induction hm : m - k using Nat.strongRecOn generalizing k I with
  | _ m_ ih =>
    intro h8 hI
    have hnb := hT.ks.nb
    refine x_iload 114 dX1_finishRest_112 rfl rfl ?_
    refine x_iload_n 115 dX1_finishRest_114 rfl rfl ?_
    refine x_icmp_ge 141 118 dX1_finishRest_115 (by decide) rfl (fun c115 => ?_) (fun c115 => ?_)
    · skip
      have c115 : m ≤ k := (nI_leI (a := m) (b := k) (by omega) (by omega)).mp c115
      refine x_fgt [(1, .ref (x.ad 0 0)), (1, .int lv), (1, .int cd), (1, .int (nI m)), xo] ⟨Or.inr rfl, Or.inr rfl, Or.inr rfl, Or.inr rfl, Or.inl rfl, trivial⟩ ?_
      have e : k = m := by omega
      rw [hI, e]; exact hx
    · skip
      have c115 : ¬ (m ≤ k) := fun h => c115 ((nI_leI (a := m) (b := k) (by omega) (by omega)).mpr h)
      refine x_aload_n 119 dX1_finishRest_118 rfl rfl ?_
      refine x_getz 122 dX1_finishRest_119 rfl fl_X1_102 (hT.ks.l0 (by omega)) (hT.ks.z0_3 (by omega)) ?_
      refine x_iload 124 dX1_finishRest_122 rfl rfl ?_
      refine x_aload_n 125 dX1_finishRest_124 rfl rfl ?_
      refine x_gets 128 dX1_finishRest_125 rfl fl_X1_371 (hT.ks.l0 (by omega)) hme ?_
      refine x_getz 131 dX1_finishRest_128 rfl fl_X1_742 (hT.ks.l9 (by omega)) (hT.ks.z9_15 (by omega)) ?_
      refine x_iload 133 dX1_finishRest_131 rfl rfl ?_
      refine x_iald 134 dX1_finishRest_133 rfl ar_48 (hT.ks.l48 (by omega)) (xb (hT.ks.n48 (by omega)) (by omega) (by omega)) ?_
      refine x_vi (w := I 48 me k) rfl ?_
      refine x_iast 135 dX1_finishRest_134 rfl ar_21 (by decide) (by decide) (hT.ks.l21 (by omega)) (xb (hT.ks.n21 (by omega)) (by omega) (by omega)) ?_
      refine k_nmA (v := v) (kI_xu (c := 21) rfl) fun I1 hI1 => ?_
      refine x_iinc 138 [(1, .ref (x.ad 0 0)), (1, .int lv), (1, .int cd), (1, .int (nI m)), (1, .int (nI (k + 1)))] dX1_finishRest_135 rfl (by decide) rfl (xi_1 k) rfl ?_
      refine x_goto 112 dX1_finishRest_138 (by decide) ?_
      exact ih _ (by rw [← hm]; omega) (k + 1) I1 rfl (by omega) (by rw [hI1, hI, xfil_c (by decide)]; exact xfil_step (by omega) rfl)
theorem kWf.kl {A : xI} {N : Nat} (h : kWf A N) (p : Nat) : kLn (A 9 p 16) 16 := h 9 p 16 _ rfl
set_option maxHeartbeats 4000000 in
set_option maxRecDepth 100000 in
theorem s85_fr {G : xG} {n a b : Nat} {Q : Outcome → xS → Prop} {x : kX} {I : xI} {R : xR} {v : kV} {th : List xTh} {mm : Nat} (hT : KT x v th) (hK : KI (I, R, th) x.N mm)  (hmm : mm + 10 < 16384) {me : Nat} (hme : R 0 0 19 = some me) (hme16 : me < 16) (hn : 11 ≤ n) (hq : kOv Q x (kFrX x.N me (I, R) th)) : X G mX1_finishRest n a b Q (kS I R x v) 85 [(1, .ref (x.ad 0 0)), xo, xo, xo, xo] [] := by
  have hnb := hT.ks.nb
  unfold kFrX at hq
  dsimp only at hq
  refine x_aload_n 86 dX1_finishRest_85 rfl rfl ?_
  refine x_gets 89 dX1_finishRest_86 rfl fl_X1_371 (hT.ks.l0 (by omega)) ((kSx.rfl (s := (I, R, th))).2 0 0 19 rfl |>.trans hme) ?_
  refine x_geti 92 dX1_finishRest_89 rfl fl_X1_503 (hT.ks.l9 (by omega)) ?_
  refine x_vi (w := I 9 me 11) rfl ?_
  refine x_nmi fun x1 hx1 => ?_
  refine x_istore_n 93 [(1, .ref (x.ad 0 0)), (1, .int x1), xo, xo, xo] dX1_finishRest_92 rfl (by decide) rfl ?_
  refine x_aload_n 94 dX1_finishRest_93 rfl rfl ?_
  refine x_gets 97 dX1_finishRest_94 rfl fl_X1_371 (hT.ks.l0 (by omega)) ((kSx.rfl (s := (I, R, th))).2 0 0 19 rfl |>.trans hme) ?_
  refine x_geti 100 dX1_finishRest_97 rfl fl_X1_706 (hT.ks.l9 (by omega)) ?_
  refine x_vi (w := I 9 me 12) rfl ?_
  refine x_nmi fun x2 hx2 => ?_
  refine x_istore_n 101 [(1, .ref (x.ad 0 0)), (1, .int x1), (1, .int x2), xo, xo] dX1_finishRest_100 rfl (by decide) rfl ?_
  refine x_aload_n 102 dX1_finishRest_101 rfl rfl ?_
  refine x_gets 105 dX1_finishRest_102 rfl fl_X1_371 (hT.ks.l0 (by omega)) ((kSx.rfl (s := (I, R, th))).2 0 0 19 rfl |>.trans hme) ?_
  refine x_geti 108 dX1_finishRest_105 rfl fl_X1_739 (hT.ks.l9 (by omega)) ?_
  refine x_vi (w := I 9 me 16) rfl ?_
  refine x_vi (w := nI (iN (I 9 me 16))) (hK.wf.kl me).1 ?_
  refine x_istore_n 109 [(1, .ref (x.ad 0 0)), (1, .int x1), (1, .int x2), (1, .int (nI (iN (I 9 me 16)))), xo] dX1_finishRest_108 rfl (by decide) rfl ?_
  refine x_iconst (v := 0) 110 dX1_finishRest_109 rfl rfl ?_
  refine x_istore 112 [(1, .ref (x.ad 0 0)), (1, .int x1), (1, .int x2), (1, .int (nI (iN (I 9 me 16)))), (1, .int 0)] dX1_finishRest_110 rfl (by decide) rfl ?_
  have hm16 := (hK.wf.kl me).2
  refine l2_X1_finishRest (m := iN (I 9 me 16)) hT hm16 hme hme16 ?_ 0 I (by omega) (by omega) (xfil_0 _ _ _ _ _).symm
  rw [← hx1, ← hx2] at hq
  obtain ⟨A1, hA1⟩ : ∃ A, A = xfil I 21 0 0 (iN (I 9 me 16)) (I 48 me) := ⟨_, rfl⟩
  rw [← hA1]; rw [← hA1] at hq
  have hwA : A1 0 0 21 = I 0 0 21 := by rw [hA1]; exact xfil_c (by decide)
  refine x_aload_n 142 dX1_finishRest_141 rfl rfl ?_
  refine x_getz 145 dX1_finishRest_142 rfl fl_X1_46 (hT.ks.l0 (by omega)) (hT.ks.z0_9 (by omega)) ?_
  refine x_aload_n 146 dX1_finishRest_145 rfl rfl ?_
  refine x_geti 149 dX1_finishRest_146 rfl fl_X1_291 (hT.ks.l0 (by omega)) ?_
  refine x_vi (w := A1 0 0 21) rfl ?_
  refine x_callV (as := [.int (A1 0 0 21)]) (rest := []) (i := 0) (n' := n - 1) 152 dX1_finishRest_149 rfl mv_X1_344 rfl rfl (hT.ks.l2 (by omega)) (xnh rfl) (by omega) (xst (Nat.le_of_ble_eq_true rfl)) (k_X3_end hT (by omega) ?_)
  · skip
    intro we hUe
    change X _ _ _ _ _ _ _ _ _ _
    refine x_aload_n 153 dX1_finishRest_152 rfl rfl ?_
    refine x_gets 156 dX1_finishRest_153 rfl fl_X1_371 (hUe.ks.l0 (by omega)) ((kSx.rfl (s := (I, R, th))).2 0 0 19 rfl |>.trans hme) ?_
    refine x_callV (as := []) (rest := []) (i := me) (n' := n - 1) 159 dX1_finishRest_156 rfl mv_X1_745 rfl rfl (hUe.ks.l9 (by omega)) (xnh rfl) (by omega) (xst (Nat.le_of_ble_eq_true rfl)) (c_X10_endGroup hUe.ks (by omega) (by omega) ?_)
    change X _ _ _ _ _ _ _ _ _ _
    refine k_nmA (v := we) (A1 := (pEndI A1 me)) kI_pEndI fun I1 hI1 => ?_
    refine k_nmC (v := we) (C1 := (pEndR R me)) kR_pEndR fun R1 hR1 => ?_
    refine x_iconst (v := 0) 160 dX1_finishRest_159 rfl rfl ?_
    refine x_istore 162 [(1, .ref (x.ad 0 0)), (1, .int x1), (1, .int x2), (1, .int (nI (iN (I 9 me 16)))), (1, .int 0)] dX1_finishRest_160 rfl (by decide) rfl ?_
    rw [← hwA] at hq
    have hKe : KI (pEndI A1 me, pEndR R me, thEnd th (A1 0 0 21)) x.N mm := by
      have hA : kWf A1 x.N ∧ kNum A1 x.N := by rw [hA1]; unfold xfil; exact ⟨hK.wf.ur (fun _ => rfl), ⟨fun i hi => by rw [xur_c (by decide)]; exact hK.nm.1 i hi, fun p hp => by rw [xur_c (by decide)]; exact hK.nm.2 p hp⟩⟩
      exact KI.of hA.1.pEnd hK.rf.pEnd hK.ok.end (hA.2.fx fx_pEnd) (Nat.le_trans len_end hK.ln)
    rw [hI1, hR1]
    exact l3_X1_finishRest (s := (pEndI A1 me, pEndR R me, thEnd th (A1 0 0 21))) hKe hm16 (by omega) (show pEndR R me 0 0 19 = some me from (cx_pEnd (C := R) (p := me) 0 0 19 rfl).trans hme) hme16 hq 0 _ _ _ _ (by omega) (by omega) hUe rfl
set_option maxHeartbeats 400000 in
set_option maxRecDepth 100000 in
theorem l1_X1_finishRest {G : xG} {n a b : Nat} {Q : Outcome → xS → Prop} {x : kX} {v : kV} {th : List xTh} (hT : KT x v th) {s : xI × xR} {mm me : Nat} (hK : KI (s.1, s.2, th) x.N mm) (hmm : mm + 10 < 16384) (hme : s.2 0 0 19 = some me) (hme16 : me < 16) (hq : kOv Q x (kFrX x.N me (itS (kFr0 me) s 16) th)) (k : Nat) (I : xI) (R : xR) (hn : 11 ≤ n) :
    (k ≤ 16) → ((I, R) = itS (kFr0 me) s k) → X G mX1_finishRest n a b Q (kS I R x v) 18 [(1, .ref (x.ad 0 0)), (1, .ref (x.ad 26 0)), (1, .int (nI 16)), (1, .int (nI k)), xo] [] := by
  induction hm : 16 - k using Nat.strongRecOn generalizing k I R with
  | _ m_ ih =>
    intro h8 hw
    have hnb := hT.ks.nb
    have hKS := KI.fr0 (me := me) hK k
    rw [show (s.1, s.2) = s from rfl, ← hw] at hKS
    obtain ⟨hKk, hCk⟩ := hKS
    have hmek : R 0 0 19 = some me := (hCk 0 0 19 rfl).trans hme
    refine x_iload_n 19 dX1_finishRest_18 rfl rfl ?_
    refine x_iload_n 20 dX1_finishRest_19 rfl rfl ?_
    refine x_icmp_ge 85 23 dX1_finishRest_20 (by decide) rfl (fun c20 => ?_) (fun c20 => ?_)
    · skip
      have c20 : 16 ≤ k := (nI_leI (a := 16) (b := k) (by omega) (by omega)).mp c20
      refine x_fgt [(1, .ref (x.ad 0 0)), xo, xo, xo, xo] ⟨Or.inr rfl, Or.inl rfl, Or.inl rfl, Or.inl rfl, Or.inl rfl, trivial⟩ ?_
      have e : k = 16 := by omega
      rw [← e, ← hw] at hq
      exact s85_fr hT hKk (by omega) hmek hme16 (by omega) hq
    · skip
      have c20 : ¬ (16 ≤ k) := fun h => c20 ((nI_leI (a := 16) (b := k) (by omega) (by omega)).mpr h)
      refine x_aload_n 24 dX1_finishRest_23 rfl rfl ?_
      refine x_iload_n 25 dX1_finishRest_24 rfl rfl ?_
      refine x_aldz 26 dX1_finishRest_25 rfl ar_26 rfl (hT.ks.l26 (by omega)) (xb (hT.ks.n26 (by omega)) (by omega) (by omega)) (hT.ks.z26 (by omega)) ?_
      refine x_astore 28 [(1, .ref (x.ad 0 0)), (1, .ref (x.ad 26 0)), (1, .int (nI 16)), (1, .int (nI k)), (1, .ref (x.ad 9 k))] dX1_finishRest_26 rfl (by decide) rfl ?_
      refine x_aload 30 dX1_finishRest_28 rfl rfl ?_
      refine x_geti 33 dX1_finishRest_30 rfl fl_X1_208 (hT.ks.l9 (by omega)) ?_
      refine x_vi (w := I 9 k 1) rfl ?_
      refine x_iconst (v := 3) 34 dX1_finishRest_33 rfl rfl ?_
      refine x_icmp_ne 55 37 dX1_finishRest_34 (by decide) rfl (fun c34 => ?_) (fun c34 => ?_)
      · skip
        have hnk1 : I 9 k 0 = nI k := hKk.nm.2 k (by omega)
        refine x_aload_n 56 dX1_finishRest_55 rfl rfl ?_
        refine x_gets 59 dX1_finishRest_56 rfl fl_X1_371 (hT.ks.l0 (by omega)) hmek ?_
        refine x_geti 62 dX1_finishRest_59 rfl fl_X1_721 (hT.ks.l9 (by omega)) ?_
        refine x_vi (w := I 9 me 17) rfl ?_
        refine x_aload 64 dX1_finishRest_62 rfl rfl ?_
        refine x_geti 67 dX1_finishRest_64 rfl fl_X1_346 (hT.ks.l9 (by omega)) ?_
        refine x_vi (w := I 9 k 0) rfl ?_
        refine x_vi (w := nI k) hnk1 ?_
        refine x_ishr 68 dX1_finishRest_67 rfl ?_
        refine x_iconst (v := 1) 69 dX1_finishRest_68 rfl rfl ?_
        refine x_iand 70 dX1_finishRest_69 rfl ?_
        refine x_iconst (v := 1) 71 dX1_finishRest_70 rfl rfl ?_
        refine x_icmp_ne 79 74 dX1_finishRest_71 (by decide) rfl (fun c71 => ?_) (fun c71 => ?_)
        · skip
          refine x_iinc 82 [(1, .ref (x.ad 0 0)), (1, .ref (x.ad 26 0)), (1, .int (nI 16)), (1, .int (nI (k + 1))), (1, .ref (x.ad 9 k))] dX1_finishRest_79 rfl (by decide) rfl (xi_1 k) rfl ?_
          refine x_goto 18 dX1_finishRest_82 (by decide) ?_
          refine x_fgt [(1, .ref (x.ad 0 0)), (1, .ref (x.ad 26 0)), (1, .int (nI 16)), (1, .int (nI (k + 1))), xo] ⟨Or.inr rfl, Or.inr rfl, Or.inr rfl, Or.inr rfl, Or.inl rfl, trivial⟩ ?_
          have eA : kFrA (I, R) k = I := by unfold kFrA; rw [if_neg (fun h => c34 h.1)]
          exact ih _ (by rw [← hm]; omega) (k + 1) I R rfl (by omega) (by show _ = kFr0 me (itS (kFr0 me) s k) k; rw [← hw]; unfold kFr0; rw [eA, if_neg c71])
        · skip
          refine x_aload 76 dX1_finishRest_74 rfl rfl ?_
          refine x_callV (as := []) (rest := []) (i := k) (n' := n - 1) 79 dX1_finishRest_76 rfl mv_X1_201 rfl rfl (hT.ks.l9 (by omega)) (xnh rfl) (by omega) (xst (Nat.le_of_ble_eq_true rfl)) (c_X10_clear hT.ks (by omega) (by omega) ?_)
          change X _ _ _ _ _ _ _ _ _ _
          refine k_nmA (v := v) (A1 := (pClrI I k)) kI_pClrI fun I1 hI1 => ?_
          refine k_nmC (v := v) (C1 := (pClrR R k)) kR_pClrR fun R1 hR1 => ?_
          refine x_iinc 82 [(1, .ref (x.ad 0 0)), (1, .ref (x.ad 26 0)), (1, .int (nI 16)), (1, .int (nI (k + 1))), (1, .ref (x.ad 9 k))] dX1_finishRest_79 rfl (by decide) rfl (xi_1 k) rfl ?_
          refine x_goto 18 dX1_finishRest_82 (by decide) ?_
          refine x_fgt [(1, .ref (x.ad 0 0)), (1, .ref (x.ad 26 0)), (1, .int (nI 16)), (1, .int (nI (k + 1))), xo] ⟨Or.inr rfl, Or.inr rfl, Or.inr rfl, Or.inr rfl, Or.inl rfl, trivial⟩ ?_
          have eA : kFrA (I, R) k = I := by unfold kFrA; rw [if_neg (fun h => c34 h.1)]
          exact ih _ (by rw [← hm]; omega) (k + 1) I1 R1 rfl (by omega) (by show _ = kFr0 me (itS (kFr0 me) s k) k; rw [← hw]; unfold kFr0; rw [eA, if_pos c71, hI1, hR1])
      · skip
        refine x_aload 39 dX1_finishRest_37 rfl rfl ?_
        refine x_geti 42 dX1_finishRest_39 rfl fl_X1_341 (hT.ks.l9 (by omega)) ?_
        refine x_vi (w := I 9 k 18) rfl ?_
        refine x_aload_n 43 dX1_finishRest_42 rfl rfl ?_
        refine x_geti 46 dX1_finishRest_43 rfl fl_X1_291 (hT.ks.l0 (by omega)) ?_
        refine x_vi (w := I 0 0 21) rfl ?_
        refine x_icmp_ne 55 49 dX1_finishRest_46 (by decide) rfl (fun c46 => ?_) (fun c46 => ?_)
        · skip
          have hnk1 : I 9 k 0 = nI k := hKk.nm.2 k (by omega)
          refine x_aload_n 56 dX1_finishRest_55 rfl rfl ?_
          refine x_gets 59 dX1_finishRest_56 rfl fl_X1_371 (hT.ks.l0 (by omega)) hmek ?_
          refine x_geti 62 dX1_finishRest_59 rfl fl_X1_721 (hT.ks.l9 (by omega)) ?_
          refine x_vi (w := I 9 me 17) rfl ?_
          refine x_aload 64 dX1_finishRest_62 rfl rfl ?_
          refine x_geti 67 dX1_finishRest_64 rfl fl_X1_346 (hT.ks.l9 (by omega)) ?_
          refine x_vi (w := I 9 k 0) rfl ?_
          refine x_vi (w := nI k) hnk1 ?_
          refine x_ishr 68 dX1_finishRest_67 rfl ?_
          refine x_iconst (v := 1) 69 dX1_finishRest_68 rfl rfl ?_
          refine x_iand 70 dX1_finishRest_69 rfl ?_
          refine x_iconst (v := 1) 71 dX1_finishRest_70 rfl rfl ?_
          refine x_icmp_ne 79 74 dX1_finishRest_71 (by decide) rfl (fun c71 => ?_) (fun c71 => ?_)
          · skip
            refine x_iinc 82 [(1, .ref (x.ad 0 0)), (1, .ref (x.ad 26 0)), (1, .int (nI 16)), (1, .int (nI (k + 1))), (1, .ref (x.ad 9 k))] dX1_finishRest_79 rfl (by decide) rfl (xi_1 k) rfl ?_
            refine x_goto 18 dX1_finishRest_82 (by decide) ?_
            refine x_fgt [(1, .ref (x.ad 0 0)), (1, .ref (x.ad 26 0)), (1, .int (nI 16)), (1, .int (nI (k + 1))), xo] ⟨Or.inr rfl, Or.inr rfl, Or.inr rfl, Or.inr rfl, Or.inl rfl, trivial⟩ ?_
            have eA : kFrA (I, R) k = I := by unfold kFrA; rw [if_neg (fun h => c46 h.2)]
            exact ih _ (by rw [← hm]; omega) (k + 1) I R rfl (by omega) (by show _ = kFr0 me (itS (kFr0 me) s k) k; rw [← hw]; unfold kFr0; rw [eA, if_neg c71])
          · skip
            refine x_aload 76 dX1_finishRest_74 rfl rfl ?_
            refine x_callV (as := []) (rest := []) (i := k) (n' := n - 1) 79 dX1_finishRest_76 rfl mv_X1_201 rfl rfl (hT.ks.l9 (by omega)) (xnh rfl) (by omega) (xst (Nat.le_of_ble_eq_true rfl)) (c_X10_clear hT.ks (by omega) (by omega) ?_)
            change X _ _ _ _ _ _ _ _ _ _
            refine k_nmA (v := v) (A1 := (pClrI I k)) kI_pClrI fun I1 hI1 => ?_
            refine k_nmC (v := v) (C1 := (pClrR R k)) kR_pClrR fun R1 hR1 => ?_
            refine x_iinc 82 [(1, .ref (x.ad 0 0)), (1, .ref (x.ad 26 0)), (1, .int (nI 16)), (1, .int (nI (k + 1))), (1, .ref (x.ad 9 k))] dX1_finishRest_79 rfl (by decide) rfl (xi_1 k) rfl ?_
            refine x_goto 18 dX1_finishRest_82 (by decide) ?_
            refine x_fgt [(1, .ref (x.ad 0 0)), (1, .ref (x.ad 26 0)), (1, .int (nI 16)), (1, .int (nI (k + 1))), xo] ⟨Or.inr rfl, Or.inr rfl, Or.inr rfl, Or.inr rfl, Or.inl rfl, trivial⟩ ?_
            have eA : kFrA (I, R) k = I := by unfold kFrA; rw [if_neg (fun h => c46 h.2)]
            exact ih _ (by rw [← hm]; omega) (k + 1) I1 R1 rfl (by omega) (by show _ = kFr0 me (itS (kFr0 me) s k) k; rw [← hw]; unfold kFr0; rw [eA, if_pos c71, hI1, hR1])
        · skip
          refine x_aload 51 dX1_finishRest_49 rfl rfl ?_
          refine x_iconst (v := 1) 52 dX1_finishRest_51 rfl rfl ?_
          refine x_puti 55 dX1_finishRest_52 rfl fl_X1_208 rfl rfl (hT.ks.l9 (by omega)) ?_
          refine k_nmA (v := v) (kI_xu (c := 9) rfl) fun I1 hI1 => ?_
          have hnk1 : I1 9 k 0 = nI k := by rw [hI1, xu_k (by decide)]; exact hKk.nm.2 k (by omega)
          refine x_aload_n 56 dX1_finishRest_55 rfl rfl ?_
          refine x_gets 59 dX1_finishRest_56 rfl fl_X1_371 (hT.ks.l0 (by omega)) hmek ?_
          refine x_geti 62 dX1_finishRest_59 rfl fl_X1_721 (hT.ks.l9 (by omega)) ?_
          refine x_vi (w := I1 9 me 17) rfl ?_
          refine x_aload 64 dX1_finishRest_62 rfl rfl ?_
          refine x_geti 67 dX1_finishRest_64 rfl fl_X1_346 (hT.ks.l9 (by omega)) ?_
          refine x_vi (w := I1 9 k 0) rfl ?_
          refine x_vi (w := nI k) hnk1 ?_
          refine x_ishr 68 dX1_finishRest_67 rfl ?_
          refine x_iconst (v := 1) 69 dX1_finishRest_68 rfl rfl ?_
          refine x_iand 70 dX1_finishRest_69 rfl ?_
          refine x_iconst (v := 1) 71 dX1_finishRest_70 rfl rfl ?_
          refine x_icmp_ne 79 74 dX1_finishRest_71 (by decide) rfl (fun c71 => ?_) (fun c71 => ?_)
          · skip
            refine x_iinc 82 [(1, .ref (x.ad 0 0)), (1, .ref (x.ad 26 0)), (1, .int (nI 16)), (1, .int (nI (k + 1))), (1, .ref (x.ad 9 k))] dX1_finishRest_79 rfl (by decide) rfl (xi_1 k) rfl ?_
            refine x_goto 18 dX1_finishRest_82 (by decide) ?_
            refine x_fgt [(1, .ref (x.ad 0 0)), (1, .ref (x.ad 26 0)), (1, .int (nI 16)), (1, .int (nI (k + 1))), xo] ⟨Or.inr rfl, Or.inr rfl, Or.inr rfl, Or.inr rfl, Or.inl rfl, trivial⟩ ?_
            have eA : kFrA (I, R) k = I1 := by unfold kFrA; rw [if_pos ⟨c34, c46⟩]; exact hI1.symm
            exact ih _ (by rw [← hm]; omega) (k + 1) I1 R rfl (by omega) (by show _ = kFr0 me (itS (kFr0 me) s k) k; rw [← hw]; unfold kFr0; rw [eA, if_neg c71])
          · skip
            refine x_aload 76 dX1_finishRest_74 rfl rfl ?_
            refine x_callV (as := []) (rest := []) (i := k) (n' := n - 1) 79 dX1_finishRest_76 rfl mv_X1_201 rfl rfl (hT.ks.l9 (by omega)) (xnh rfl) (by omega) (xst (Nat.le_of_ble_eq_true rfl)) (c_X10_clear hT.ks (by omega) (by omega) ?_)
            change X _ _ _ _ _ _ _ _ _ _
            refine k_nmA (v := v) (A1 := (pClrI I1 k)) kI_pClrI fun I2 hI2 => ?_
            refine k_nmC (v := v) (C1 := (pClrR R k)) kR_pClrR fun R1 hR1 => ?_
            refine x_iinc 82 [(1, .ref (x.ad 0 0)), (1, .ref (x.ad 26 0)), (1, .int (nI 16)), (1, .int (nI (k + 1))), (1, .ref (x.ad 9 k))] dX1_finishRest_79 rfl (by decide) rfl (xi_1 k) rfl ?_
            refine x_goto 18 dX1_finishRest_82 (by decide) ?_
            refine x_fgt [(1, .ref (x.ad 0 0)), (1, .ref (x.ad 26 0)), (1, .int (nI 16)), (1, .int (nI (k + 1))), xo] ⟨Or.inr rfl, Or.inr rfl, Or.inr rfl, Or.inr rfl, Or.inl rfl, trivial⟩ ?_
            have eA : kFrA (I, R) k = I1 := by unfold kFrA; rw [if_pos ⟨c34, c46⟩]; exact hI1.symm
            exact ih _ (by rw [← hm]; omega) (k + 1) I2 R1 rfl (by omega) (by show _ = kFr0 me (itS (kFr0 me) s k) k; rw [← hw]; unfold kFr0; rw [eA, if_pos c71, hI2, hR1])
theorem kClrQ {Q : Outcome → xS → Prop} {o : Outcome} {A : xI} {N : Nat} {w : Int32} {z : xJ × xR × xR × xT} (h : Q o (kClrA N w A, z)) : Q o (itA (kClr1 w) A N, z) := h
set_option maxHeartbeats 400000 in
set_option maxRecDepth 100000 in
theorem c_X1_finishRest {G : xG} {n : Nat} {Q : Outcome → xS → Prop} {x : kX} {I : xI} {R : xR} {v : kV} {th : List xTh} {mm : Nat} (hT : KT x v th) (hK : KI (I, R, th) x.N mm) {me : Nat} (hmm : mm + 10 < 16384) (hme : R 0 0 19 = some me) (hme16 : me < 16) (hn : 12 ≤ n) (hq : kOv Q x (kFinR x.N (I, R, th) me)) : xCall G mX1_finishRest n [.ref (x.ad 0 0)] (kS I R x v) Q := by
  refine x_met (L0 := [(1, .ref (x.ad 0 0)), xo, xo, xo, xo]) (by decide +kernel) rfl ⟨Nat.le_of_ble_eq_true rfl, rfl⟩ ?_
  refine x_aload_n 1 dX1_finishRest_0 rfl rfl ?_
  refine x_aload_n 2 dX1_finishRest_1 rfl rfl ?_
  refine x_geti 5 dX1_finishRest_2 rfl fl_X1_291 (hT.ks.l0 (by omega)) ?_
  refine x_vi (w := I 0 0 21) rfl ?_
  refine x_callV (as := [.int (I 0 0 21)]) (rest := []) (i := 0) (n' := n - 1) 8 dX1_finishRest_5 rfl mv_X1_736 rfl rfl (hT.ks.l0 (by omega)) (xnh rfl) (by omega) (xst (Nat.le_of_ble_eq_true rfl)) (c_X1_clearMarks hT.ks (by omega) (kClrQ ?_))
  change X _ _ _ _ _ _ _ _ _ _
  refine k_nmA (v := v) (A1 := (kClrA x.N (I 0 0 21) I)) kI_kClrA fun I1 hI1 => ?_
  refine x_aload_n 9 dX1_finishRest_8 rfl rfl ?_
  refine x_getz 12 dX1_finishRest_9 rfl fl_X1_39 (hT.ks.l0 (by omega)) (hT.ks.z0_8 (by omega)) ?_
  refine x_astore_n 13 [(1, .ref (x.ad 0 0)), (1, .ref (x.ad 26 0)), xo, xo, xo] dX1_finishRest_12 rfl (by decide) rfl ?_
  refine x_aload_n 14 dX1_finishRest_13 rfl rfl ?_
  refine x_alen 15 dX1_finishRest_14 rfl ar_26 (hT.ks.l26 (by omega)) ?_
  refine x_vi (congrArg nI (hT.ks.n26 (by omega))) ?_
  refine x_istore_n 16 [(1, .ref (x.ad 0 0)), (1, .ref (x.ad 26 0)), (1, .int (nI 16)), xo, xo] dX1_finishRest_15 rfl (by decide) rfl ?_
  refine x_iconst (v := 0) 17 dX1_finishRest_16 rfl rfl ?_
  refine x_istore_n 18 [(1, .ref (x.ad 0 0)), (1, .ref (x.ad 26 0)), (1, .int (nI 16)), (1, .int 0), xo] dX1_finishRest_17 rfl (by decide) rfl ?_
  unfold kFinR at hq
  rw [hI1]
  exact l1_X1_finishRest (s := (kClrA x.N (I 0 0 21) I, R)) hT (KI.of hK.wf.clrA hK.rf hK.ok hK.nm.clrA hK.ln) (by omega) hme hme16 hq 0 _ R (by omega) (by omega) rfl
