set_option maxRecDepth 100000
def kMeP (s : kK) (p c : Nat) : Prop := s.1 9 c 1 = 0 ∨ ¬ s.1 9 c 2 = nI p ∨ (s.1 9 c 1 = 3 ∧ s.1 9 c 18 = nI p)
noncomputable def kMe1 (N me p : Nat) (s : kK) : Nat → kO × Bool
  | 0 => ((0, s), false)
  | c + 1 => if (kMe1 N me p s c).1.1 = 0 then cif (kMeP (kMe1 N me p s c).1.2 p c) (kMe1 N me p s c) (kAccess N (kMe1 N me p s c).1.2 me 7 (nI c) 0 0 1, true) else kMe1 N me p s c
noncomputable def kMe2 (N me cl p : Nat) (s : kK) : Nat → kO
  | 0 => (0, s)
  | k + 1 => if (kMe2 N me cl p s k).1 = 0 then (match (kMe2 N me cl p s k).2.2.1 cl p k with
      | none => kMe2 N me cl p s k
      | some o => cif (oPipe (kMe2 N me cl p s k).2.2.1 o) (cif (kPk (kMe2 N me cl p s k).2 o) (kAccess N (kMe2 N me cl p s k).2 me 6 ((kMe2 N me cl p s k).2.1 7 o 1) 0 0 1) (99, (kMe2 N me cl p s k).2)) (kMe2 N me cl p s k)) else kMe2 N me cl p s k
noncomputable def kMe4 (N me p : Nat) (s : kK) : kO := cif (pGrp s.1 p) (kMe2 N me 47 p s 8) (kMe2 N me 46 p s 8)
noncomputable def kMe3 (N me p : Nat) (s : kK) (b : Bool) : kO := if b = true then (if (kAccess N s me 7 (nI 0) 0 0 1).1 = 0 then kMe4 N me p (kAccess N s me 7 (nI 0) 0 0 1).2 else kAccess N s me 7 (nI 0) 0 0 1) else kMe4 N me p s
/-- what a process that ends writes besides its life -/
noncomputable def kMeetE (N : Nat) (s : kK) (me p : Nat) : kO := if (kMe1 N me p s 16).1.1 = 0 then kMe3 N me p (kMe1 N me p s 16).1.2 (kMe1 N me p s 16).2 else (kMe1 N me p s 16).1
theorem kMe1_stop {N me p : Nat} {s : kK} {k : Nat} (h : ¬ (kMe1 N me p s k).1.1 = 0) : ∀ j, kMe1 N me p s (k + j) = kMe1 N me p s k
  | 0 => rfl
  | j + 1 => by
    show (if (kMe1 N me p s (k + j)).1.1 = 0 then _ else kMe1 N me p s (k + j)) = _
    rw [kMe1_stop h j, if_neg h]
theorem kMe2_stop {N me cl p : Nat} {s : kK} {k : Nat} (h : ¬ (kMe2 N me cl p s k).1 = 0) : ∀ j, kMe2 N me cl p s (k + j) = kMe2 N me cl p s k
  | 0 => rfl
  | j + 1 => by
    show (if (kMe2 N me cl p s (k + j)).1 = 0 then _ else kMe2 N me cl p s (k + j)) = _
    rw [kMe2_stop h j, if_neg h]
theorem KI.me1 {N me p m : Nat} {s : kK} (h : KI s N m) : ∀ k, k ≤ 16 → KI (kMe1 N me p s k).1.2 N (m + k) ∧ kSx s (kMe1 N me p s k).1.2
  | 0, _ => ⟨h, kSx.rfl⟩
  | k + 1, hk => by
    obtain ⟨h1, h2⟩ := KI.me1 (me := me) (p := p) h k (by omega)
    show KI (if (kMe1 N me p s k).1.1 = 0 then cif (kMeP (kMe1 N me p s k).1.2 p k) (kMe1 N me p s k) (kAccess N (kMe1 N me p s k).1.2 me 7 (nI k) 0 0 1, true) else kMe1 N me p s k).1.2 N (m + (k + 1)) ∧ kSx s (if (kMe1 N me p s k).1.1 = 0 then cif (kMeP (kMe1 N me p s k).1.2 p k) (kMe1 N me p s k) (kAccess N (kMe1 N me p s k).1.2 me 7 (nI k) 0 0 1, true) else kMe1 N me p s k).1.2
    split
    · by_cases e : kMeP (kMe1 N me p s k).1.2 p k
      · rw [cif_t e]; exact ⟨h1.le (by omega), h2⟩
      · rw [cif_f e]; exact ⟨h1.access (hoaN (g := 7) (by omega) kOf7), h2.trans sx_access⟩
    · exact ⟨h1.le (by omega), h2⟩
theorem KI.me2 {N me cl p m : Nat} {s : kK} (h : KI s N m) : ∀ k, KI (kMe2 N me cl p s k).2 N (m + k) ∧ kSx s (kMe2 N me cl p s k).2
  | 0 => ⟨h, kSx.rfl⟩
  | k + 1 => by
    obtain ⟨h1, h2⟩ := KI.me2 (me := me) (cl := cl) (p := p) h k
    unfold kMe2
    split
    · split
      · exact ⟨h1.le (by omega), h2⟩
      · next o ho =>
        by_cases e : oPipe (kMe2 N me cl p s k).2.2.1 o
        · rw [cif_t e]
          by_cases e2 : kPk (kMe2 N me cl p s k).2 o
          · rw [cif_t e2]; exact ⟨h1.access ⟨e2.2, kOf6 e2.1⟩, h2.trans sx_access⟩
          · rw [cif_f e2]; exact ⟨h1.le (by omega), h2⟩
        · rw [cif_f e]; exact ⟨h1.le (by omega), h2⟩
    · exact ⟨h1.le (by omega), h2⟩
theorem KI.meetE {N me p m : Nat} {s : kK} (h : KI s N m) : KI (kMeetE N s me p).2 N (m + 30) ∧ kSx s (kMeetE N s me p).2 := by
  have h1 := KI.me1 (me := me) (p := p) h 16 (Nat.le_refl _)
  have h4 : ∀ {t : kK} {q}, KI t N q → KI (kMe4 N me p t).2 N (q + 8) ∧ kSx t (kMe4 N me p t).2 := fun {t q} ht => by
    unfold kMe4
    by_cases e : pGrp t.1 p
    · rw [cif_t e]; exact ht.me2 8
    · rw [cif_f e]; exact ht.me2 8
  unfold kMeetE
  split
  · unfold kMe3
    have hA := h1.1.access (me := me) (x := 0) (y := 0) (w := 1) (hoaN (g := 7) (d := 0) (by omega) kOf7)
    split
    · split
      · have := h4 hA; exact ⟨this.1.le (by omega), h1.2.trans (sx_access.trans this.2)⟩
      · exact ⟨hA.le (by omega), h1.2.trans sx_access⟩
    · have := h4 h1.1; exact ⟨this.1.le (by omega), h1.2.trans this.2⟩
  · exact ⟨h1.1.le (by omega), h1.2⟩
theorem dX1_meetEnd_0 : decode cX1_meetEnd 0 = .ok (.iconst 0, 1) := by decide +kernel
theorem dX1_meetEnd_1 : decode cX1_meetEnd 1 = .ok (.istore_n 2, 1) := by decide +kernel
theorem dX1_meetEnd_2 : decode cX1_meetEnd 2 = .ok (.aload_n 0, 1) := by decide +kernel
theorem dX1_meetEnd_3 : decode cX1_meetEnd 3 = .ok (.getfield 39, 3) := by decide +kernel
theorem dX1_meetEnd_6 : decode cX1_meetEnd 6 = .ok (.astore_n 3, 1) := by decide +kernel
theorem dX1_meetEnd_7 : decode cX1_meetEnd 7 = .ok (.aload_n 3, 1) := by decide +kernel
theorem dX1_meetEnd_8 : decode cX1_meetEnd 8 = .ok (.arraylength, 1) := by decide +kernel
theorem dX1_meetEnd_9 : decode cX1_meetEnd 9 = .ok (.istore 4, 2) := by decide +kernel
theorem dX1_meetEnd_11 : decode cX1_meetEnd 11 = .ok (.iconst 0, 1) := by decide +kernel
theorem dX1_meetEnd_12 : decode cX1_meetEnd 12 = .ok (.istore 5, 2) := by decide +kernel
theorem dX1_meetEnd_14 : decode cX1_meetEnd 14 = .ok (.iload 5, 2) := by decide +kernel
theorem dX1_meetEnd_16 : decode cX1_meetEnd 16 = .ok (.iload 4, 2) := by decide +kernel
theorem dX1_meetEnd_18 : decode cX1_meetEnd 18 = .ok (.if_icmp .ge 84, 3) := by decide +kernel
theorem dX1_meetEnd_21 : decode cX1_meetEnd 21 = .ok (.aload_n 3, 1) := by decide +kernel
theorem dX1_meetEnd_22 : decode cX1_meetEnd 22 = .ok (.iload 5, 2) := by decide +kernel
theorem dX1_meetEnd_24 : decode cX1_meetEnd 24 = .ok (.aaload, 1) := by decide +kernel
theorem dX1_meetEnd_25 : decode cX1_meetEnd 25 = .ok (.astore 6, 2) := by decide +kernel
theorem dX1_meetEnd_27 : decode cX1_meetEnd 27 = .ok (.aload 6, 2) := by decide +kernel
theorem dX1_meetEnd_29 : decode cX1_meetEnd 29 = .ok (.getfield 208, 3) := by decide +kernel
theorem dX1_meetEnd_32 : decode cX1_meetEnd 32 = .ok (.iconst 3, 1) := by decide +kernel
theorem dX1_meetEnd_33 : decode cX1_meetEnd 33 = .ok (.if_icmp .ne 19, 3) := by decide +kernel
theorem dX1_meetEnd_36 : decode cX1_meetEnd 36 = .ok (.aload 6, 2) := by decide +kernel
theorem dX1_meetEnd_38 : decode cX1_meetEnd 38 = .ok (.getfield 341, 3) := by decide +kernel
theorem dX1_meetEnd_41 : decode cX1_meetEnd 41 = .ok (.aload_n 1, 1) := by decide +kernel
theorem dX1_meetEnd_42 : decode cX1_meetEnd 42 = .ok (.getfield 346, 3) := by decide +kernel
theorem dX1_meetEnd_45 : decode cX1_meetEnd 45 = .ok (.if_icmp .ne 7, 3) := by decide +kernel
theorem dX1_meetEnd_48 : decode cX1_meetEnd 48 = .ok (.iconst 1, 1) := by decide +kernel
theorem dX1_meetEnd_49 : decode cX1_meetEnd 49 = .ok (.goto 4, 3) := by decide +kernel
theorem dX1_meetEnd_52 : decode cX1_meetEnd 52 = .ok (.iconst 0, 1) := by decide +kernel
theorem dX1_meetEnd_53 : decode cX1_meetEnd 53 = .ok (.istore 7, 2) := by decide +kernel
theorem dX1_meetEnd_55 : decode cX1_meetEnd 55 = .ok (.aload 6, 2) := by decide +kernel
theorem dX1_meetEnd_57 : decode cX1_meetEnd 57 = .ok (.getfield 208, 3) := by decide +kernel
theorem dX1_meetEnd_60 : decode cX1_meetEnd 60 = .ok (.ifCond .eq 36, 3) := by decide +kernel
theorem dX1_meetEnd_63 : decode cX1_meetEnd 63 = .ok (.aload 6, 2) := by decide +kernel
theorem dX1_meetEnd_65 : decode cX1_meetEnd 65 = .ok (.getfield 703, 3) := by decide +kernel
theorem dX1_meetEnd_68 : decode cX1_meetEnd 68 = .ok (.aload_n 1, 1) := by decide +kernel
theorem dX1_meetEnd_69 : decode cX1_meetEnd 69 = .ok (.getfield 346, 3) := by decide +kernel
theorem dX1_meetEnd_72 : decode cX1_meetEnd 72 = .ok (.if_icmp .ne 24, 3) := by decide +kernel
theorem dX1_meetEnd_75 : decode cX1_meetEnd 75 = .ok (.iload 7, 2) := by decide +kernel
theorem dX1_meetEnd_77 : decode cX1_meetEnd 77 = .ok (.ifCond .eq 6, 3) := by decide +kernel
theorem dX1_meetEnd_80 : decode cX1_meetEnd 80 = .ok (.goto 16, 3) := by decide +kernel
theorem dX1_meetEnd_83 : decode cX1_meetEnd 83 = .ok (.aload_n 0, 1) := by decide +kernel
theorem dX1_meetEnd_84 : decode cX1_meetEnd 84 = .ok (.bipush 7, 2) := by decide +kernel
theorem dX1_meetEnd_86 : decode cX1_meetEnd 86 = .ok (.aload 6, 2) := by decide +kernel
theorem dX1_meetEnd_88 : decode cX1_meetEnd 88 = .ok (.getfield 346, 3) := by decide +kernel
theorem dX1_meetEnd_91 : decode cX1_meetEnd 91 = .ok (.invokevirtual 588, 3) := by decide +kernel
theorem dX1_meetEnd_94 : decode cX1_meetEnd 94 = .ok (.iconst 1, 1) := by decide +kernel
theorem dX1_meetEnd_95 : decode cX1_meetEnd 95 = .ok (.istore_n 2, 1) := by decide +kernel
theorem dX1_meetEnd_96 : decode cX1_meetEnd 96 = .ok (.iinc 5 1, 3) := by decide +kernel
theorem dX1_meetEnd_99 : decode cX1_meetEnd 99 = .ok (.goto (-85), 3) := by decide +kernel
theorem dX1_meetEnd_102 : decode cX1_meetEnd 102 = .ok (.iload_n 2, 1) := by decide +kernel
theorem dX1_meetEnd_103 : decode cX1_meetEnd 103 = .ok (.ifCond .eq 10, 3) := by decide +kernel
theorem dX1_meetEnd_106 : decode cX1_meetEnd 106 = .ok (.aload_n 0, 1) := by decide +kernel
theorem dX1_meetEnd_107 : decode cX1_meetEnd 107 = .ok (.bipush 7, 2) := by decide +kernel
theorem dX1_meetEnd_109 : decode cX1_meetEnd 109 = .ok (.iconst 0, 1) := by decide +kernel
theorem dX1_meetEnd_110 : decode cX1_meetEnd 110 = .ok (.invokevirtual 588, 3) := by decide +kernel
theorem dX1_meetEnd_113 : decode cX1_meetEnd 113 = .ok (.aload_n 1, 1) := by decide +kernel
theorem dX1_meetEnd_114 : decode cX1_meetEnd 114 = .ok (.invokevirtual 231, 3) := by decide +kernel
theorem dX1_meetEnd_117 : decode cX1_meetEnd 117 = .ok (.ifCond .eq 10, 3) := by decide +kernel
theorem dX1_meetEnd_120 : decode cX1_meetEnd 120 = .ok (.aload_n 1, 1) := by decide +kernel
theorem dX1_meetEnd_121 : decode cX1_meetEnd 121 = .ok (.getfield 715, 3) := by decide +kernel
theorem dX1_meetEnd_124 : decode cX1_meetEnd 124 = .ok (.goto 7, 3) := by decide +kernel
theorem dX1_meetEnd_127 : decode cX1_meetEnd 127 = .ok (.aload_n 1, 1) := by decide +kernel
theorem dX1_meetEnd_128 : decode cX1_meetEnd 128 = .ok (.getfield 246, 3) := by decide +kernel
theorem dX1_meetEnd_131 : decode cX1_meetEnd 131 = .ok (.astore_n 3, 1) := by decide +kernel
theorem dX1_meetEnd_132 : decode cX1_meetEnd 132 = .ok (.iconst 0, 1) := by decide +kernel
theorem dX1_meetEnd_133 : decode cX1_meetEnd 133 = .ok (.istore 4, 2) := by decide +kernel
theorem dX1_meetEnd_135 : decode cX1_meetEnd 135 = .ok (.iload 4, 2) := by decide +kernel
theorem dX1_meetEnd_137 : decode cX1_meetEnd 137 = .ok (.bipush 8, 2) := by decide +kernel
theorem dX1_meetEnd_139 : decode cX1_meetEnd 139 = .ok (.if_icmp .ge 39, 3) := by decide +kernel
theorem dX1_meetEnd_142 : decode cX1_meetEnd 142 = .ok (.aload_n 3, 1) := by decide +kernel
theorem dX1_meetEnd_143 : decode cX1_meetEnd 143 = .ok (.iload 4, 2) := by decide +kernel
theorem dX1_meetEnd_145 : decode cX1_meetEnd 145 = .ok (.aaload, 1) := by decide +kernel
theorem dX1_meetEnd_146 : decode cX1_meetEnd 146 = .ok (.ifnull 26, 3) := by decide +kernel
theorem dX1_meetEnd_149 : decode cX1_meetEnd 149 = .ok (.aload_n 3, 1) := by decide +kernel
theorem dX1_meetEnd_150 : decode cX1_meetEnd 150 = .ok (.iload 4, 2) := by decide +kernel
theorem dX1_meetEnd_152 : decode cX1_meetEnd 152 = .ok (.aaload, 1) := by decide +kernel
theorem dX1_meetEnd_153 : decode cX1_meetEnd 153 = .ok (.invokevirtual 237, 3) := by decide +kernel
theorem dX1_meetEnd_156 : decode cX1_meetEnd 156 = .ok (.ifCond .eq 16, 3) := by decide +kernel
theorem dX1_meetEnd_159 : decode cX1_meetEnd 159 = .ok (.aload_n 0, 1) := by decide +kernel
theorem dX1_meetEnd_160 : decode cX1_meetEnd 160 = .ok (.bipush 6, 2) := by decide +kernel
theorem dX1_meetEnd_162 : decode cX1_meetEnd 162 = .ok (.aload_n 3, 1) := by decide +kernel
theorem dX1_meetEnd_163 : decode cX1_meetEnd 163 = .ok (.iload 4, 2) := by decide +kernel
theorem dX1_meetEnd_165 : decode cX1_meetEnd 165 = .ok (.aaload, 1) := by decide +kernel
theorem dX1_meetEnd_166 : decode cX1_meetEnd 166 = .ok (.getfield 240, 3) := by decide +kernel
theorem dX1_meetEnd_169 : decode cX1_meetEnd 169 = .ok (.invokevirtual 588, 3) := by decide +kernel
theorem dX1_meetEnd_172 : decode cX1_meetEnd 172 = .ok (.iinc 4 1, 3) := by decide +kernel
theorem dX1_meetEnd_175 : decode cX1_meetEnd 175 = .ok (.goto (-40), 3) := by decide +kernel
theorem dX1_meetEnd_178 : decode cX1_meetEnd 178 = .ok (.return_, 1) := by decide +kernel
set_option maxHeartbeats 400000 in
set_option maxRecDepth 100000 in
theorem l46_X1_meetEnd {G : xG} {n a b : Nat} {Q : Outcome → xS → Prop} {x : kX} {s : kK} {mm : Nat} (hK : KI s x.N mm) {p me : Nat} (hp : p < 16) (hmm : mm + 40 < 16384) (hme : s.2.1 0 0 19 = some me) (hme16 : me < 16) (hq : kOv Q x (kMe2 x.N me 46 p s 8)) (k : Nat) (I : xI) (R : xR) (th : List xTh) (v : kV) (hn : 10 ≤ n) :
    (k ≤ 8) → (KT x v th) → ((0, (I, R, th)) = kMe2 x.N me 46 p s k) → X G mX1_meetEnd n a b Q (kS I R x v) 135 [(1, .ref (x.ad 0 0)), (1, .ref (x.ad 9 p)), xo, (1, .ref (x.ad 46 p)), (1, .int (nI k)), xo, xo, xo] [] := by
  induction hm : 8 - k using Nat.strongRecOn generalizing k I R th v with
  | _ m_ ih =>
    intro h8 hT hw
    have hnb := hT.ks.nb
    have hKS := KI.me2 (me := me) (cl := 46) (p := p) hK k
    rw [← hw] at hKS
    obtain ⟨hKk, hSk⟩ := hKS
    have hmek : R 0 0 19 = some me := (hSk.2 0 0 19 rfl).trans hme
    refine x_iload 137 dX1_meetEnd_135 rfl rfl ?_
    refine x_bipush (v := 8) 139 dX1_meetEnd_137 rfl rfl ?_
    refine x_icmp_ge 178 142 dX1_meetEnd_139 (by decide) rfl (fun c139 => ?_) (fun c139 => ?_)
    · skip
      have c139 : 8 ≤ k := (nI_leI (a := 8) (b := k) (by omega) (by omega)).mp c139
      refine x_vreturn dX1_meetEnd_178 rfl ?_
      have e : k = 8 := by omega
      rw [← e, ← hw] at hq
      exact hq.2.1 rfl _ hT
    · skip
      have c139 : ¬ (8 ≤ k) := fun h => c139 ((nI_leI (a := 8) (b := k) (by omega) (by omega)).mpr h)
      refine x_aload_n 143 dX1_meetEnd_142 rfl rfl ?_
      refine x_iload 145 dX1_meetEnd_143 rfl rfl ?_
      refine x_aldr 146 dX1_meetEnd_145 rfl ar_46 rfl (hT.ks.l46 (by omega)) (xb (hT.ks.n46 (by omega)) (by omega) (by omega)) ?_
      refine x_vr (w := R 46 p k) rfl ?_
      refine x_ifnull 172 149 dX1_meetEnd_146 (by decide) rfl (fun c146 => ?_) (fun j1 c146 => ?_)
      · skip
        refine x_iinc 175 [(1, .ref (x.ad 0 0)), (1, .ref (x.ad 9 p)), xo, (1, .ref (x.ad 46 p)), (1, .int (nI (k + 1))), xo, xo, xo] dX1_meetEnd_172 rfl (by decide) rfl (xi_1 k) rfl ?_
        refine x_goto 135 dX1_meetEnd_175 (by decide) ?_
        exact ih _ (by rw [← hm]; omega) (k + 1) I R th v rfl (by omega) (hT) (by unfold kMe2; rw [← hw, if_pos rfl]; show _ = (match R 46 p k with | none => _ | some o => _); rw [c146])
      · skip
        have d146 : R 46 p k = some j1 := c146
        have hj3 := hKk.rf.row d146
        refine x_aload_n 150 dX1_meetEnd_149 rfl rfl ?_
        refine x_iload 152 dX1_meetEnd_150 rfl rfl ?_
        refine x_alds 153 dX1_meetEnd_152 rfl ar_46 rfl (hT.ks.l46 (by omega)) (xb (hT.ks.n46 (by omega)) (by omega) (by omega)) c146 ?_
        refine x_callV (as := []) (rest := []) (i := j1) (n' := n - 1) 156 dX1_meetEnd_153 rfl mv_X1_237 rfl rfl (hT.ks.l7 hj3) (xnh rfl) (by omega) (xst (Nat.le_of_ble_eq_true rfl)) (c_X8_isPipe hT.ks (by omega) (by omega) ?_)
        change X _ _ _ _ _ _ _ _ _ _
        refine x_vi (w := b2i (oPipe R j1)) rfl ?_
        refine x_if_eq 172 159 dX1_meetEnd_156 (by decide) rfl (fun c156 => ?_) (fun c156 => ?_)
        · skip
          have c156 : ¬ (oPipe R j1) := b2i_0.mp c156
          refine x_iinc 175 [(1, .ref (x.ad 0 0)), (1, .ref (x.ad 9 p)), xo, (1, .ref (x.ad 46 p)), (1, .int (nI (k + 1))), xo, xo, xo] dX1_meetEnd_172 rfl (by decide) rfl (xi_1 k) rfl ?_
          refine x_goto 135 dX1_meetEnd_175 (by decide) ?_
          exact ih _ (by rw [← hm]; omega) (k + 1) I R th v rfl (by omega) (hT) (by unfold kMe2; rw [← hw, if_pos rfl]; show _ = (match R 46 p k with | none => _ | some o => _); rw [d146]; show _ = cif (oPipe R j1) _ _; rw [cif_f c156])
        · skip
          have c156 : oPipe R j1 := b2i_n0.mp c156
          have hpk_ : kPk (I, R, th) j1 := Classical.byContradiction (fun h => by
            have hs9 : kMe2 x.N me 46 p s (k + 1) = (99, (I, R, th)) := by unfold kMe2; rw [← hw, if_pos rfl]; show (match R 46 p k with | none => _ | some o => _) = _; rw [d146]; show cif (oPipe R j1) (cif (kPk (I, R, th) j1) _ _) _ = _; rw [cif_t c156, cif_f h]
            obtain ⟨j_, hj_⟩ : ∃ j_, 8 = (k + 1) + j_ := ⟨8 - (k + 1), by omega⟩
            rw [hj_, kMe2_stop (by rw [hs9]; exact (show ¬ (99 : Int32) = 0 by decide)), hs9] at hq
            exact hq.1 rfl)
          refine x_aload_n 160 dX1_meetEnd_159 rfl rfl ?_
          refine x_bipush (v := 6) 162 dX1_meetEnd_160 rfl rfl ?_
          refine x_aload_n 163 dX1_meetEnd_162 rfl rfl ?_
          refine x_iload 165 dX1_meetEnd_163 rfl rfl ?_
          refine x_alds 166 dX1_meetEnd_165 rfl ar_46 rfl (hT.ks.l46 (by omega)) (xb (hT.ks.n46 (by omega)) (by omega) (by omega)) c146 ?_
          refine x_geti 169 dX1_meetEnd_166 rfl fl_X1_240 (hT.ks.l7 hj3) ?_
          refine x_vi (w := I 7 j1 1) rfl ?_
          obtain ⟨r_1, hd1⟩ : ∃ r : kO, r = kAccess x.N (I, R, th) me 6 (I 7 j1 1) 0 0 1 := ⟨_, rfl⟩
          have hs1 : kMe2 x.N me 46 p s (k + 1) = r_1 := by unfold kMe2; rw [← hw, if_pos rfl]; show (match R 46 p k with | none => _ | some o => _) = _; rw [d146]; show cif (oPipe R j1) (cif (kPk (I, R, th) j1) _ _) _ = _; rw [cif_t c156, cif_t hpk_, hd1]
          refine x_callV (as := [.int 6, .int (I 7 j1 1)]) (rest := []) (i := 0) (n' := n - 1) 172 dX1_meetEnd_169 rfl mv_X1_588 rfl rfl (hT.ks.l0 (by omega)) (xnh rfl) (by omega) (xst (Nat.le_of_ble_eq_true rfl)) (c_X1_writes (g := 6) (oa := I 7 j1 1) hT hKk ⟨hpk_.2, kOf6 hpk_.1⟩ (by omega) hmek hme16 (by omega) (kOutN hd1 ⟨?_, ?_⟩))
          · skip
            intro hz1 w1 hU1
            change X _ _ _ _ _ _ _ _ _ _
            refine x_iinc 175 [(1, .ref (x.ad 0 0)), (1, .ref (x.ad 9 p)), xo, (1, .ref (x.ad 46 p)), (1, .int (nI (k + 1))), xo, xo, xo] dX1_meetEnd_172 rfl (by decide) rfl (xi_1 k) rfl ?_
            refine x_goto 135 dX1_meetEnd_175 (by decide) ?_
            exact ih _ (by rw [← hm]; omega) (k + 1) r_1.2.1 r_1.2.2.1 r_1.2.2.2 w1 rfl (by omega) (hU1) (by rw [hs1, ← hz1])
          · skip
            intro hz1 w1 hU1
            obtain ⟨j_, hj_⟩ : ∃ j_, 8 = (k + 1) + j_ := ⟨8 - (k + 1), by omega⟩
            rw [hj_, kMe2_stop (by rw [hs1]; exact hz1), hs1] at hq
            exact hq.2.2 hz1 _ hU1
set_option maxHeartbeats 400000 in
set_option maxRecDepth 100000 in
theorem l47_X1_meetEnd {G : xG} {n a b : Nat} {Q : Outcome → xS → Prop} {x : kX} {s : kK} {mm : Nat} (hK : KI s x.N mm) {p me : Nat} (hp : p < 16) (hmm : mm + 40 < 16384) (hme : s.2.1 0 0 19 = some me) (hme16 : me < 16) (hq : kOv Q x (kMe2 x.N me 47 p s 8)) (k : Nat) (I : xI) (R : xR) (th : List xTh) (v : kV) (hn : 10 ≤ n) :
    (k ≤ 8) → (KT x v th) → ((0, (I, R, th)) = kMe2 x.N me 47 p s k) → X G mX1_meetEnd n a b Q (kS I R x v) 135 [(1, .ref (x.ad 0 0)), (1, .ref (x.ad 9 p)), xo, (1, .ref (x.ad 47 p)), (1, .int (nI k)), xo, xo, xo] [] := by
  induction hm : 8 - k using Nat.strongRecOn generalizing k I R th v with
  | _ m_ ih =>
    intro h8 hT hw
    have hnb := hT.ks.nb
    have hKS := KI.me2 (me := me) (cl := 47) (p := p) hK k
    rw [← hw] at hKS
    obtain ⟨hKk, hSk⟩ := hKS
    have hmek : R 0 0 19 = some me := (hSk.2 0 0 19 rfl).trans hme
    refine x_iload 137 dX1_meetEnd_135 rfl rfl ?_
    refine x_bipush (v := 8) 139 dX1_meetEnd_137 rfl rfl ?_
    refine x_icmp_ge 178 142 dX1_meetEnd_139 (by decide) rfl (fun c139 => ?_) (fun c139 => ?_)
    · skip
      have c139 : 8 ≤ k := (nI_leI (a := 8) (b := k) (by omega) (by omega)).mp c139
      refine x_vreturn dX1_meetEnd_178 rfl ?_
      have e : k = 8 := by omega
      rw [← e, ← hw] at hq
      exact hq.2.1 rfl _ hT
    · skip
      have c139 : ¬ (8 ≤ k) := fun h => c139 ((nI_leI (a := 8) (b := k) (by omega) (by omega)).mpr h)
      refine x_aload_n 143 dX1_meetEnd_142 rfl rfl ?_
      refine x_iload 145 dX1_meetEnd_143 rfl rfl ?_
      refine x_aldr 146 dX1_meetEnd_145 rfl ar_47 rfl (hT.ks.l47 (by omega)) (xb (hT.ks.n47 (by omega)) (by omega) (by omega)) ?_
      refine x_vr (w := R 47 p k) rfl ?_
      refine x_ifnull 172 149 dX1_meetEnd_146 (by decide) rfl (fun c146 => ?_) (fun j1 c146 => ?_)
      · skip
        refine x_iinc 175 [(1, .ref (x.ad 0 0)), (1, .ref (x.ad 9 p)), xo, (1, .ref (x.ad 47 p)), (1, .int (nI (k + 1))), xo, xo, xo] dX1_meetEnd_172 rfl (by decide) rfl (xi_1 k) rfl ?_
        refine x_goto 135 dX1_meetEnd_175 (by decide) ?_
        exact ih _ (by rw [← hm]; omega) (k + 1) I R th v rfl (by omega) (hT) (by unfold kMe2; rw [← hw, if_pos rfl]; show _ = (match R 47 p k with | none => _ | some o => _); rw [c146])
      · skip
        have d146 : R 47 p k = some j1 := c146
        have hj3 := hKk.rf.had d146
        refine x_aload_n 150 dX1_meetEnd_149 rfl rfl ?_
        refine x_iload 152 dX1_meetEnd_150 rfl rfl ?_
        refine x_alds 153 dX1_meetEnd_152 rfl ar_47 rfl (hT.ks.l47 (by omega)) (xb (hT.ks.n47 (by omega)) (by omega) (by omega)) c146 ?_
        refine x_callV (as := []) (rest := []) (i := j1) (n' := n - 1) 156 dX1_meetEnd_153 rfl mv_X1_237 rfl rfl (hT.ks.l7 hj3) (xnh rfl) (by omega) (xst (Nat.le_of_ble_eq_true rfl)) (c_X8_isPipe hT.ks (by omega) (by omega) ?_)
        change X _ _ _ _ _ _ _ _ _ _
        refine x_vi (w := b2i (oPipe R j1)) rfl ?_
        refine x_if_eq 172 159 dX1_meetEnd_156 (by decide) rfl (fun c156 => ?_) (fun c156 => ?_)
        · skip
          have c156 : ¬ (oPipe R j1) := b2i_0.mp c156
          refine x_iinc 175 [(1, .ref (x.ad 0 0)), (1, .ref (x.ad 9 p)), xo, (1, .ref (x.ad 47 p)), (1, .int (nI (k + 1))), xo, xo, xo] dX1_meetEnd_172 rfl (by decide) rfl (xi_1 k) rfl ?_
          refine x_goto 135 dX1_meetEnd_175 (by decide) ?_
          exact ih _ (by rw [← hm]; omega) (k + 1) I R th v rfl (by omega) (hT) (by unfold kMe2; rw [← hw, if_pos rfl]; show _ = (match R 47 p k with | none => _ | some o => _); rw [d146]; show _ = cif (oPipe R j1) _ _; rw [cif_f c156])
        · skip
          have c156 : oPipe R j1 := b2i_n0.mp c156
          have hpk_ : kPk (I, R, th) j1 := Classical.byContradiction (fun h => by
            have hs9 : kMe2 x.N me 47 p s (k + 1) = (99, (I, R, th)) := by unfold kMe2; rw [← hw, if_pos rfl]; show (match R 47 p k with | none => _ | some o => _) = _; rw [d146]; show cif (oPipe R j1) (cif (kPk (I, R, th) j1) _ _) _ = _; rw [cif_t c156, cif_f h]
            obtain ⟨j_, hj_⟩ : ∃ j_, 8 = (k + 1) + j_ := ⟨8 - (k + 1), by omega⟩
            rw [hj_, kMe2_stop (by rw [hs9]; exact (show ¬ (99 : Int32) = 0 by decide)), hs9] at hq
            exact hq.1 rfl)
          refine x_aload_n 160 dX1_meetEnd_159 rfl rfl ?_
          refine x_bipush (v := 6) 162 dX1_meetEnd_160 rfl rfl ?_
          refine x_aload_n 163 dX1_meetEnd_162 rfl rfl ?_
          refine x_iload 165 dX1_meetEnd_163 rfl rfl ?_
          refine x_alds 166 dX1_meetEnd_165 rfl ar_47 rfl (hT.ks.l47 (by omega)) (xb (hT.ks.n47 (by omega)) (by omega) (by omega)) c146 ?_
          refine x_geti 169 dX1_meetEnd_166 rfl fl_X1_240 (hT.ks.l7 hj3) ?_
          refine x_vi (w := I 7 j1 1) rfl ?_
          obtain ⟨r_1, hd1⟩ : ∃ r : kO, r = kAccess x.N (I, R, th) me 6 (I 7 j1 1) 0 0 1 := ⟨_, rfl⟩
          have hs1 : kMe2 x.N me 47 p s (k + 1) = r_1 := by unfold kMe2; rw [← hw, if_pos rfl]; show (match R 47 p k with | none => _ | some o => _) = _; rw [d146]; show cif (oPipe R j1) (cif (kPk (I, R, th) j1) _ _) _ = _; rw [cif_t c156, cif_t hpk_, hd1]
          refine x_callV (as := [.int 6, .int (I 7 j1 1)]) (rest := []) (i := 0) (n' := n - 1) 172 dX1_meetEnd_169 rfl mv_X1_588 rfl rfl (hT.ks.l0 (by omega)) (xnh rfl) (by omega) (xst (Nat.le_of_ble_eq_true rfl)) (c_X1_writes (g := 6) (oa := I 7 j1 1) hT hKk ⟨hpk_.2, kOf6 hpk_.1⟩ (by omega) hmek hme16 (by omega) (kOutN hd1 ⟨?_, ?_⟩))
          · skip
            intro hz1 w1 hU1
            change X _ _ _ _ _ _ _ _ _ _
            refine x_iinc 175 [(1, .ref (x.ad 0 0)), (1, .ref (x.ad 9 p)), xo, (1, .ref (x.ad 47 p)), (1, .int (nI (k + 1))), xo, xo, xo] dX1_meetEnd_172 rfl (by decide) rfl (xi_1 k) rfl ?_
            refine x_goto 135 dX1_meetEnd_175 (by decide) ?_
            exact ih _ (by rw [← hm]; omega) (k + 1) r_1.2.1 r_1.2.2.1 r_1.2.2.2 w1 rfl (by omega) (hU1) (by rw [hs1, ← hz1])
          · skip
            intro hz1 w1 hU1
            obtain ⟨j_, hj_⟩ : ∃ j_, 8 = (k + 1) + j_ := ⟨8 - (k + 1), by omega⟩
            rw [hj_, kMe2_stop (by rw [hs1]; exact hz1), hs1] at hq
            exact hq.2.2 hz1 _ hU1
set_option maxHeartbeats 4000000 in
set_option maxRecDepth 100000 in
theorem s113_me {G : xG} {n a b : Nat} {Q : Outcome → xS → Prop} {x : kX} {I : xI} {R : xR} {v : kV} {th : List xTh} {mm : Nat} (hT : KT x v th) (hK : KI (I, R, th) x.N mm) {p : Nat} (hp : p < 16) (hmm : mm + 40 < 16384) {me : Nat} (hme : R 0 0 19 = some me) (hme16 : me < 16) (hn : 10 ≤ n) (hq : kOv Q x (kMe4 x.N me p (I, R, th))) : X G mX1_meetEnd n a b Q (kS I R x v) 113 [(1, .ref (x.ad 0 0)), (1, .ref (x.ad 9 p)), xo, xo, xo, xo, xo, xo] [] := by
  have hnb := hT.ks.nb
  unfold kMe4 at hq
  refine x_aload_n 114 dX1_meetEnd_113 rfl rfl ?_
  refine x_callV (as := []) (rest := []) (i := p) (n' := n - 1) 117 dX1_meetEnd_114 rfl mv_X1_231 rfl rfl (hT.ks.l9 (by omega)) (xnh rfl) (by omega) (xst (Nat.le_of_ble_eq_true rfl)) (c_X10_hasGroup hT.ks (by omega) (by omega) ?_)
  change X _ _ _ _ _ _ _ _ _ _
  refine x_vi (w := b2i (pGrp I p)) rfl ?_
  refine x_if_eq 127 120 dX1_meetEnd_117 (by decide) rfl (fun c117 => ?_) (fun c117 => ?_)
  · skip
    have c117 : ¬ (pGrp I p) := b2i_0.mp c117
    refine x_aload_n 128 dX1_meetEnd_127 rfl rfl ?_
    refine x_getz 131 dX1_meetEnd_128 rfl fl_X1_246 (hT.ks.l9 (by omega)) (hT.ks.z9_4 (by omega)) ?_
    refine x_astore_n 132 [(1, .ref (x.ad 0 0)), (1, .ref (x.ad 9 p)), xo, (1, .ref (x.ad 46 p)), xo, xo, xo, xo] dX1_meetEnd_131 rfl (by decide) rfl ?_
    refine x_iconst (v := 0) 133 dX1_meetEnd_132 rfl rfl ?_
    refine x_istore 135 [(1, .ref (x.ad 0 0)), (1, .ref (x.ad 9 p)), xo, (1, .ref (x.ad 46 p)), (1, .int 0), xo, xo, xo] dX1_meetEnd_133 rfl (by decide) rfl ?_
    rw [cif_f (show ¬ pGrp I p from c117)] at hq
    exact l46_X1_meetEnd (s := (I, R, th)) hK hp (by omega) hme hme16 hq 0 I R th v hn (by omega) hT rfl
  · skip
    have c117 : pGrp I p := b2i_n0.mp c117
    refine x_aload_n 121 dX1_meetEnd_120 rfl rfl ?_
    refine x_getz 124 dX1_meetEnd_121 rfl fl_X1_715 (hT.ks.l9 (by omega)) (hT.ks.z9_13 (by omega)) ?_
    refine x_goto 131 dX1_meetEnd_124 (by decide) ?_
    refine x_astore_n 132 [(1, .ref (x.ad 0 0)), (1, .ref (x.ad 9 p)), xo, (1, .ref (x.ad 47 p)), xo, xo, xo, xo] dX1_meetEnd_131 rfl (by decide) rfl ?_
    refine x_iconst (v := 0) 133 dX1_meetEnd_132 rfl rfl ?_
    refine x_istore 135 [(1, .ref (x.ad 0 0)), (1, .ref (x.ad 9 p)), xo, (1, .ref (x.ad 47 p)), (1, .int 0), xo, xo, xo] dX1_meetEnd_133 rfl (by decide) rfl ?_
    rw [cif_t (show pGrp I p from c117)] at hq
    exact l47_X1_meetEnd (s := (I, R, th)) hK hp (by omega) hme hme16 hq 0 I R th v hn (by omega) hT rfl
set_option maxHeartbeats 4000000 in
set_option maxRecDepth 100000 in
theorem s102_me {G : xG} {n a b : Nat} {Q : Outcome → xS → Prop} {x : kX} {I : xI} {R : xR} {v : kV} {th : List xTh} {mm : Nat} (hT : KT x v th) (hK : KI (I, R, th) x.N mm) {p : Nat} (hp : p < 16) {bb : Bool} (hmm : mm + 50 < 16384) {me : Nat} (hme : R 0 0 19 = some me) (hme16 : me < 16) (hn : 11 ≤ n) (hq : kOv Q x (kMe3 x.N me p (I, R, th) bb)) : X G mX1_meetEnd n a b Q (kS I R x v) 102 [(1, .ref (x.ad 0 0)), (1, .ref (x.ad 9 p)), (1, .int (oIf bb)), xo, xo, xo, xo, xo] [] := by
  have hnb := hT.ks.nb
  unfold kMe3 at hq
  refine x_iload_n 103 dX1_meetEnd_102 rfl rfl ?_
  refine x_if_eq 113 106 dX1_meetEnd_103 (by decide) rfl (fun c103 => ?_) (fun c103 => ?_)
  · skip
    refine x_fgt [(1, .ref (x.ad 0 0)), (1, .ref (x.ad 9 p)), xo, xo, xo, xo, xo, xo] ⟨Or.inr rfl, Or.inr rfl, Or.inl rfl, Or.inl rfl, Or.inl rfl, Or.inl rfl, Or.inl rfl, Or.inl rfl, trivial⟩ ?_
    rw [if_neg (fun h => by rw [h] at c103; exact absurd c103 (by decide))] at hq
    exact s113_me hT hK hp (by omega) hme hme16 (by omega) hq
  · skip
    rw [if_pos (by cases bb; exact absurd rfl c103; rfl)] at hq
    refine x_aload_n 107 dX1_meetEnd_106 rfl rfl ?_
    refine x_bipush (v := 7) 109 dX1_meetEnd_107 rfl rfl ?_
    refine x_iconst (v := 0) 110 dX1_meetEnd_109 rfl rfl ?_
    obtain ⟨r_1, hd1⟩ : ∃ r : kO, r = kAccess x.N (I, R, th) me 7 (nI 0) 0 0 1 := ⟨_, rfl⟩
    rw [← hd1] at hq
    have hK_1 : KI r_1.2 x.N (mm + 1) := by rw [hd1]; exact hK.access (hoaN (g := 7) (by omega) kOf7)
    refine x_callV (as := [.int 7, .int 0]) (rest := []) (i := 0) (n' := n - 1) 113 dX1_meetEnd_110 rfl mv_X1_588 rfl rfl (hT.ks.l0 (by omega)) (xnh rfl) (by omega) (xst (Nat.le_of_ble_eq_true rfl)) (c_X1_writes (g := 7) (oa := nI 0) hT hK (hoaN (g := 7) (by omega) kOf7) (by omega) hme hme16 (by omega) (kOutN hd1 ⟨?_, ?_⟩))
    · skip
      intro hz1 w1 hU1
      change X _ _ _ _ _ _ _ _ _ _
      rw [if_pos hz1] at hq
      refine x_fgt [(1, .ref (x.ad 0 0)), (1, .ref (x.ad 9 p)), xo, xo, xo, xo, xo, xo] ⟨Or.inr rfl, Or.inr rfl, Or.inl rfl, Or.inl rfl, Or.inl rfl, Or.inl rfl, Or.inl rfl, Or.inl rfl, trivial⟩ ?_
      exact s113_me hU1 hK_1 hp (by omega) (((hd1 ▸ sx_access : kSx (I, R, th) r_1.2).2 0 0 19 rfl).trans hme) hme16 (by omega) hq
    · skip
      intro hz1 w1 hU1
      rw [if_neg hz1] at hq
      exact hq.2.2 hz1 _ hU1
set_option maxHeartbeats 400000 in
set_option maxRecDepth 100000 in
theorem l1_X1_meetEnd {G : xG} {n a b : Nat} {Q : Outcome → xS → Prop} {x : kX} {s : kK} {mm : Nat} (hK : KI s x.N mm) {p me : Nat} (hp : p < 16) (hmm : mm + 70 < 16384) (hme : s.2.1 0 0 19 = some me) (hme16 : me < 16) (hq : kOv Q x (kMeetE x.N s me p)) (k : Nat) (bb : Bool) (I : xI) (R : xR) (th : List xTh) (v : kV) (hn : 11 ≤ n) :
    (k ≤ 16) → (KT x v th) → (((0, (I, R, th)), bb) = kMe1 x.N me p s k) → X G mX1_meetEnd n a b Q (kS I R x v) 14 [(1, .ref (x.ad 0 0)), (1, .ref (x.ad 9 p)), (1, .int (oIf bb)), (1, .ref (x.ad 26 0)), (1, .int (nI 16)), (1, .int (nI k)), xo, xo] [] := by
  induction hm : 16 - k using Nat.strongRecOn generalizing k bb I R th v with
  | _ m_ ih =>
    intro h8 hT hw
    have hnb := hT.ks.nb
    have hKS := KI.me1 (me := me) (p := p) hK k h8
    rw [← hw] at hKS
    obtain ⟨hKk, hSk⟩ := hKS
    have hmek : R 0 0 19 = some me := (hSk.2 0 0 19 rfl).trans hme
    refine x_iload 16 dX1_meetEnd_14 rfl rfl ?_
    refine x_iload 18 dX1_meetEnd_16 rfl rfl ?_
    refine x_icmp_ge 102 21 dX1_meetEnd_18 (by decide) rfl (fun c18 => ?_) (fun c18 => ?_)
    · skip
      have c18 : 16 ≤ k := (nI_leI (a := 16) (b := k) (by omega) (by omega)).mp c18
      refine x_fgt [(1, .ref (x.ad 0 0)), (1, .ref (x.ad 9 p)), (1, .int (oIf bb)), xo, xo, xo, xo, xo] ⟨Or.inr rfl, Or.inr rfl, Or.inr rfl, Or.inl rfl, Or.inl rfl, Or.inl rfl, Or.inl rfl, Or.inl rfl, trivial⟩ ?_
      have e : k = 16 := by omega
      unfold kMeetE at hq
      rw [← e, ← hw, if_pos rfl] at hq
      exact s102_me hT hKk hp (by omega) hmek hme16 (by omega) hq
    · skip
      have c18 : ¬ (16 ≤ k) := fun h => c18 ((nI_leI (a := 16) (b := k) (by omega) (by omega)).mpr h)
      refine x_aload_n 22 dX1_meetEnd_21 rfl rfl ?_
      refine x_iload 24 dX1_meetEnd_22 rfl rfl ?_
      refine x_aldz 25 dX1_meetEnd_24 rfl ar_26 rfl (hT.ks.l26 (by omega)) (xb (hT.ks.n26 (by omega)) (by omega) (by omega)) (hT.ks.z26 (by omega)) ?_
      refine x_astore 27 [(1, .ref (x.ad 0 0)), (1, .ref (x.ad 9 p)), (1, .int (oIf bb)), (1, .ref (x.ad 26 0)), (1, .int (nI 16)), (1, .int (nI k)), (1, .ref (x.ad 9 k)), xo] dX1_meetEnd_25 rfl (by decide) rfl ?_
      have J53 : ∀ vj_ : Int32, vj_ = b2i (I 9 k 1 = 3 ∧ I 9 k 18 = nI p) → X G mX1_meetEnd n a b Q (kS I R x v) 53 [(1, .ref (x.ad 0 0)), (1, .ref (x.ad 9 p)), (1, .int (oIf bb)), (1, .ref (x.ad 26 0)), (1, .int (nI 16)), (1, .int (nI k)), (1, .ref (x.ad 9 k)), xo] [.int vj_] := by
        intro vj_ hv_; subst hv_
        refine x_istore 55 [(1, .ref (x.ad 0 0)), (1, .ref (x.ad 9 p)), (1, .int (oIf bb)), (1, .ref (x.ad 26 0)), (1, .int (nI 16)), (1, .int (nI k)), (1, .ref (x.ad 9 k)), (1, .int (b2i (I 9 k 1 = 3 ∧ I 9 k 18 = nI p)))] dX1_meetEnd_53 rfl (by decide) rfl ?_
        refine x_aload 57 dX1_meetEnd_55 rfl rfl ?_
        refine x_geti 60 dX1_meetEnd_57 rfl fl_X1_208 (hT.ks.l9 (by omega)) ?_
        refine x_vi (w := I 9 k 1) rfl ?_
        refine x_if_eq 96 63 dX1_meetEnd_60 (by decide) rfl (fun c60 => ?_) (fun c60 => ?_)
        · skip
          refine x_iinc 99 [(1, .ref (x.ad 0 0)), (1, .ref (x.ad 9 p)), (1, .int (oIf bb)), (1, .ref (x.ad 26 0)), (1, .int (nI 16)), (1, .int (nI (k + 1))), (1, .ref (x.ad 9 k)), (1, .int (b2i (I 9 k 1 = 3 ∧ I 9 k 18 = nI p)))] dX1_meetEnd_96 rfl (by decide) rfl (xi_1 k) rfl ?_
          refine x_goto 14 dX1_meetEnd_99 (by decide) ?_
          refine x_fgt [(1, .ref (x.ad 0 0)), (1, .ref (x.ad 9 p)), (1, .int (oIf bb)), (1, .ref (x.ad 26 0)), (1, .int (nI 16)), (1, .int (nI (k + 1))), xo, xo] ⟨Or.inr rfl, Or.inr rfl, Or.inr rfl, Or.inr rfl, Or.inr rfl, Or.inr rfl, Or.inl rfl, Or.inl rfl, trivial⟩ ?_
          exact ih _ (by rw [← hm]; omega) (k + 1) bb I R th v rfl (by omega) (hT) (by unfold kMe1; rw [← hw, if_pos rfl]; show _ = cif (kMeP (I, R, th) p k) _ _; rw [cif_t (show kMeP (I, R, th) p k from Or.inl c60)])
        · skip
          refine x_aload 65 dX1_meetEnd_63 rfl rfl ?_
          refine x_geti 68 dX1_meetEnd_65 rfl fl_X1_703 (hT.ks.l9 (by omega)) ?_
          refine x_vi (w := I 9 k 2) rfl ?_
          refine x_aload_n 69 dX1_meetEnd_68 rfl rfl ?_
          refine x_geti 72 dX1_meetEnd_69 rfl fl_X1_346 (hT.ks.l9 (by omega)) ?_
          refine x_vi (w := I 9 p 0) rfl ?_
          refine x_vi (w := nI p) (hKk.nm.2 p hp) ?_
          refine x_icmp_ne 96 75 dX1_meetEnd_72 (by decide) rfl (fun c72 => ?_) (fun c72 => ?_)
          · skip
            refine x_iinc 99 [(1, .ref (x.ad 0 0)), (1, .ref (x.ad 9 p)), (1, .int (oIf bb)), (1, .ref (x.ad 26 0)), (1, .int (nI 16)), (1, .int (nI (k + 1))), (1, .ref (x.ad 9 k)), (1, .int (b2i (I 9 k 1 = 3 ∧ I 9 k 18 = nI p)))] dX1_meetEnd_96 rfl (by decide) rfl (xi_1 k) rfl ?_
            refine x_goto 14 dX1_meetEnd_99 (by decide) ?_
            refine x_fgt [(1, .ref (x.ad 0 0)), (1, .ref (x.ad 9 p)), (1, .int (oIf bb)), (1, .ref (x.ad 26 0)), (1, .int (nI 16)), (1, .int (nI (k + 1))), xo, xo] ⟨Or.inr rfl, Or.inr rfl, Or.inr rfl, Or.inr rfl, Or.inr rfl, Or.inr rfl, Or.inl rfl, Or.inl rfl, trivial⟩ ?_
            exact ih _ (by rw [← hm]; omega) (k + 1) bb I R th v rfl (by omega) (hT) (by unfold kMe1; rw [← hw, if_pos rfl]; show _ = cif (kMeP (I, R, th) p k) _ _; rw [cif_t (show kMeP (I, R, th) p k from Or.inr (Or.inl c72))])
          · skip
            refine x_iload 77 dX1_meetEnd_75 rfl rfl ?_
            refine x_if_eq 83 80 dX1_meetEnd_77 (by decide) rfl (fun c77 => ?_) (fun c77 => ?_)
            · skip
              have c77 : ¬ (I 9 k 1 = 3 ∧ I 9 k 18 = nI p) := b2i_0.mp c77
              refine x_aload_n 84 dX1_meetEnd_83 rfl rfl ?_
              refine x_bipush (v := 7) 86 dX1_meetEnd_84 rfl rfl ?_
              refine x_aload 88 dX1_meetEnd_86 rfl rfl ?_
              refine x_geti 91 dX1_meetEnd_88 rfl fl_X1_346 (hT.ks.l9 (by omega)) ?_
              refine x_vi (w := I 9 k 0) rfl ?_
              refine x_vi (w := nI k) (hKk.nm.2 k (by omega)) ?_
              have hnP : ¬ kMeP (I, R, th) p k := by rintro (h | h | h); exact c60 h; exact h c72; exact c77 h
              obtain ⟨r_1, hd1⟩ : ∃ r : kO, r = kAccess x.N (I, R, th) me 7 (nI k) 0 0 1 := ⟨_, rfl⟩
              have hs1 : kMe1 x.N me p s (k + 1) = (r_1, true) := by unfold kMe1; rw [← hw, if_pos rfl]; show cif (kMeP (I, R, th) p k) _ _ = _; rw [cif_f hnP, hd1]
              refine x_callV (as := [.int 7, .int (nI k)]) (rest := []) (i := 0) (n' := n - 1) 94 dX1_meetEnd_91 rfl mv_X1_588 rfl rfl (hT.ks.l0 (by omega)) (xnh rfl) (by omega) (xst (Nat.le_of_ble_eq_true rfl)) (c_X1_writes (g := 7) (oa := nI k) hT hKk (hoaN (g := 7) (by omega) kOf7) (by omega) hmek hme16 (by omega) (kOutN hd1 ⟨?_, ?_⟩))
              · skip
                intro hz1 w1 hU1
                change X _ _ _ _ _ _ _ _ _ _
                refine x_iconst (v := 1) 95 dX1_meetEnd_94 rfl rfl ?_
                refine x_istore_n 96 [(1, .ref (x.ad 0 0)), (1, .ref (x.ad 9 p)), (1, .int 1), (1, .ref (x.ad 26 0)), (1, .int (nI 16)), (1, .int (nI k)), (1, .ref (x.ad 9 k)), (1, .int (b2i (I 9 k 1 = 3 ∧ I 9 k 18 = nI p)))] dX1_meetEnd_95 rfl (by decide) rfl ?_
                refine x_iinc 99 [(1, .ref (x.ad 0 0)), (1, .ref (x.ad 9 p)), (1, .int 1), (1, .ref (x.ad 26 0)), (1, .int (nI 16)), (1, .int (nI (k + 1))), (1, .ref (x.ad 9 k)), (1, .int (b2i (I 9 k 1 = 3 ∧ I 9 k 18 = nI p)))] dX1_meetEnd_96 rfl (by decide) rfl (xi_1 k) rfl ?_
                refine x_goto 14 dX1_meetEnd_99 (by decide) ?_
                refine x_fgt [(1, .ref (x.ad 0 0)), (1, .ref (x.ad 9 p)), (1, .int 1), (1, .ref (x.ad 26 0)), (1, .int (nI 16)), (1, .int (nI (k + 1))), xo, xo] ⟨Or.inr rfl, Or.inr rfl, Or.inr rfl, Or.inr rfl, Or.inr rfl, Or.inr rfl, Or.inl rfl, Or.inl rfl, trivial⟩ ?_
                exact ih _ (by rw [← hm]; omega) (k + 1) true r_1.2.1 r_1.2.2.1 r_1.2.2.2 w1 rfl (by omega) (hU1) (by rw [hs1, ← hz1])
              · skip
                intro hz1 w1 hU1
                obtain ⟨j_, hj_⟩ : ∃ j_, 16 = (k + 1) + j_ := ⟨16 - (k + 1), by omega⟩
                unfold kMeetE at hq
                rw [hj_, kMe1_stop (by rw [hs1]; exact hz1), hs1, if_neg hz1] at hq
                exact hq.2.2 hz1 _ hU1
            · skip
              have c77 : I 9 k 1 = 3 ∧ I 9 k 18 = nI p := b2i_n0.mp c77
              refine x_goto 96 dX1_meetEnd_80 (by decide) ?_
              refine x_iinc 99 [(1, .ref (x.ad 0 0)), (1, .ref (x.ad 9 p)), (1, .int (oIf bb)), (1, .ref (x.ad 26 0)), (1, .int (nI 16)), (1, .int (nI (k + 1))), (1, .ref (x.ad 9 k)), (1, .int (b2i (I 9 k 1 = 3 ∧ I 9 k 18 = nI p)))] dX1_meetEnd_96 rfl (by decide) rfl (xi_1 k) rfl ?_
              refine x_goto 14 dX1_meetEnd_99 (by decide) ?_
              refine x_fgt [(1, .ref (x.ad 0 0)), (1, .ref (x.ad 9 p)), (1, .int (oIf bb)), (1, .ref (x.ad 26 0)), (1, .int (nI 16)), (1, .int (nI (k + 1))), xo, xo] ⟨Or.inr rfl, Or.inr rfl, Or.inr rfl, Or.inr rfl, Or.inr rfl, Or.inr rfl, Or.inl rfl, Or.inl rfl, trivial⟩ ?_
              exact ih _ (by rw [← hm]; omega) (k + 1) bb I R th v rfl (by omega) (hT) (by unfold kMe1; rw [← hw, if_pos rfl]; show _ = cif (kMeP (I, R, th) p k) _ _; rw [cif_t (show kMeP (I, R, th) p k from Or.inr (Or.inr c77))])
      refine x_aload 29 dX1_meetEnd_27 rfl rfl ?_
      refine x_geti 32 dX1_meetEnd_29 rfl fl_X1_208 (hT.ks.l9 (by omega)) ?_
      refine x_vi (w := I 9 k 1) rfl ?_
      refine x_iconst (v := 3) 33 dX1_meetEnd_32 rfl rfl ?_
      refine x_icmp_ne 52 36 dX1_meetEnd_33 (by decide) rfl (fun c33 => ?_) (fun c33 => ?_)
      · skip
        refine x_iconst (v := 0) 53 dX1_meetEnd_52 rfl rfl ?_
        exact J53 _ (b2i_f (fun h => c33 h.1)).symm
      · skip
        refine x_aload 38 dX1_meetEnd_36 rfl rfl ?_
        refine x_geti 41 dX1_meetEnd_38 rfl fl_X1_341 (hT.ks.l9 (by omega)) ?_
        refine x_vi (w := I 9 k 18) rfl ?_
        refine x_aload_n 42 dX1_meetEnd_41 rfl rfl ?_
        refine x_geti 45 dX1_meetEnd_42 rfl fl_X1_346 (hT.ks.l9 (by omega)) ?_
        refine x_vi (w := I 9 p 0) rfl ?_
        refine x_vi (w := nI p) (hKk.nm.2 p hp) ?_
        refine x_icmp_ne 52 48 dX1_meetEnd_45 (by decide) rfl (fun c45 => ?_) (fun c45 => ?_)
        · skip
          refine x_iconst (v := 0) 53 dX1_meetEnd_52 rfl rfl ?_
          exact J53 _ (b2i_f (fun h => c45 h.2)).symm
        · skip
          refine x_iconst (v := 1) 49 dX1_meetEnd_48 rfl rfl ?_
          refine x_goto 53 dX1_meetEnd_49 (by decide) ?_
          exact J53 _ (b2i_t (⟨c33, c45⟩)).symm
set_option maxHeartbeats 400000 in
set_option maxRecDepth 100000 in
theorem c_X1_meetEnd {G : xG} {n : Nat} {Q : Outcome → xS → Prop} {x : kX} {I : xI} {R : xR} {v : kV} {th : List xTh} {mm : Nat} (hT : KT x v th) (hK : KI (I, R, th) x.N mm) {p me : Nat} (hp : p < 16) (hmm : mm + 80 < 16384) (hme : R 0 0 19 = some me) (hme16 : me < 16) (hn : 11 ≤ n) (hq : kOv Q x (kMeetE x.N (I, R, th) me p)) : xCall G mX1_meetEnd n [.ref (x.ad 0 0), .ref (x.ad 9 p)] (kS I R x v) Q := by
  refine x_met (L0 := [(1, .ref (x.ad 0 0)), (1, .ref (x.ad 9 p)), xo, xo, xo, xo, xo, xo]) (by decide +kernel) rfl ⟨Nat.le_of_ble_eq_true rfl, rfl⟩ ?_
  refine x_iconst (v := 0) 1 dX1_meetEnd_0 rfl rfl ?_
  refine x_istore_n 2 [(1, .ref (x.ad 0 0)), (1, .ref (x.ad 9 p)), (1, .int 0), xo, xo, xo, xo, xo] dX1_meetEnd_1 rfl (by decide) rfl ?_
  refine x_aload_n 3 dX1_meetEnd_2 rfl rfl ?_
  refine x_getz 6 dX1_meetEnd_3 rfl fl_X1_39 (hT.ks.l0 (by omega)) (hT.ks.z0_8 (by omega)) ?_
  refine x_astore_n 7 [(1, .ref (x.ad 0 0)), (1, .ref (x.ad 9 p)), (1, .int 0), (1, .ref (x.ad 26 0)), xo, xo, xo, xo] dX1_meetEnd_6 rfl (by decide) rfl ?_
  refine x_aload_n 8 dX1_meetEnd_7 rfl rfl ?_
  refine x_alen 9 dX1_meetEnd_8 rfl ar_26 (hT.ks.l26 (by omega)) ?_
  refine x_vi (congrArg nI (hT.ks.n26 (by omega))) ?_
  refine x_istore 11 [(1, .ref (x.ad 0 0)), (1, .ref (x.ad 9 p)), (1, .int 0), (1, .ref (x.ad 26 0)), (1, .int (nI 16)), xo, xo, xo] dX1_meetEnd_9 rfl (by decide) rfl ?_
  refine x_iconst (v := 0) 12 dX1_meetEnd_11 rfl rfl ?_
  refine x_istore 14 [(1, .ref (x.ad 0 0)), (1, .ref (x.ad 9 p)), (1, .int 0), (1, .ref (x.ad 26 0)), (1, .int (nI 16)), (1, .int 0), xo, xo] dX1_meetEnd_12 rfl (by decide) rfl ?_
  exact l1_X1_meetEnd (s := (I, R, th)) hK hp (by omega) hme hme16 hq 0 false I R th v hn (by omega) hT rfl
theorem kI_kEndI {A t : xI} {p : Nat} {c : Int32} : kEndI (kI A t) p c = kI (kEndI A p c) t := by unfold kEndI; (repeat rw [kI_xu (c := 9) rfl])
theorem kI_kAdopt {A t : xI} {p c : Nat} : kAdopt p (kI A t) c = kI (kAdopt p A c) t := by unfold kAdopt; rw [kI_xu (c := 9) rfl]; exact kI_ite
def kEndA (A : xI) (p : Nat) (c : Int32) : xI := itA (kAdopt p) (kEndI A p c) 16
/-- a process ends -/
def kEnd (s : kK) (p : Nat) (c : Int32) : kK := (kEndA s.1 p c, kEndR s.2.1 p, s.2.2)
theorem kEndA_eq {A : xI} {p : Nat} {c : Int32} : itA (kAdopt p) (kEndI A p c) 16 = kEndA A p c := by unfold kEndA; rfl
theorem kI_kEndA {A t : xI} {p : Nat} {c : Int32} : kEndA (kI A t) p c = kI (kEndA A p c) t := by unfold kEndA; rw [kI_kEndI]; exact kI_itA (f := kAdopt p) (fun _ _ => kI_kAdopt) 16
theorem kEnd_q {Q : Outcome → xS → Prop} {o : Outcome} {A : xI} {p : Nat} {c : Int32} {z : xJ × xR × xR × xT} (h : Q o (kEndA A p c, z)) : Q o (itA (kAdopt p) (kEndI A p c) 16, z) := by rw [kEndA_eq]; exact h
theorem kOs.ret3 {Q : Outcome → xS → Prop} {x : kX} {v' : kV} {A : xI} {C : xR} {th : List xTh} {w : Int32} (h : kOs Q x (kRt (A, C, th) w)) (hT : KT x v' th) : Q (.returned (some (.int w))) (kS A C x v') := h.2.1 rfl v' hT
theorem kR_kEndR {C u : xR} {p : Nat} : kEndR (kR C u) p = kR (kEndR C p) u := by unfold kEndR; rw [kR_xu (c := 9) rfl, kR_xur (c := 46) rfl]
noncomputable def kDoExit (N : Nat) (s : kK) (me : Nat) (c : Int32) : kQ := if me = 0 then kRf s (-5) else kU (kAccess N s me 7 (nI me) 0 0 1) fun s => if s.1 0 0 21 = 16 then kU (kMeetE N s me me) fun s => kRt (kEnd s me c) 0 else
  kRt (xu (xu s.1 9 me 11 1) 9 me 12 c, s.2.1, s.2.2) 0
theorem dX1_doExit_0 : decode cX1_doExit 0 = .ok (.aload_n 0, 1) := by decide +kernel
theorem dX1_doExit_1 : decode cX1_doExit 1 = .ok (.getfield 371, 3) := by decide +kernel
theorem dX1_doExit_4 : decode cX1_doExit 4 = .ok (.getfield 346, 3) := by decide +kernel
theorem dX1_doExit_7 : decode cX1_doExit 7 = .ok (.ifCond .ne 13, 3) := by decide +kernel
theorem dX1_doExit_10 : decode cX1_doExit 10 = .ok (.aload_n 0, 1) := by decide +kernel
theorem dX1_doExit_11 : decode cX1_doExit 11 = .ok (.getfield 53, 3) := by decide +kernel
theorem dX1_doExit_14 : decode cX1_doExit 14 = .ok (.bipush (-5), 2) := by decide +kernel
theorem dX1_doExit_16 : decode cX1_doExit 16 = .ok (.invokevirtual 364, 3) := by decide +kernel
theorem dX1_doExit_19 : decode cX1_doExit 19 = .ok (.athrow, 1) := by decide +kernel
theorem dX1_doExit_20 : decode cX1_doExit 20 = .ok (.aload_n 0, 1) := by decide +kernel
theorem dX1_doExit_21 : decode cX1_doExit 21 = .ok (.bipush 7, 2) := by decide +kernel
theorem dX1_doExit_23 : decode cX1_doExit 23 = .ok (.aload_n 0, 1) := by decide +kernel
theorem dX1_doExit_24 : decode cX1_doExit 24 = .ok (.getfield 371, 3) := by decide +kernel
theorem dX1_doExit_27 : decode cX1_doExit 27 = .ok (.getfield 346, 3) := by decide +kernel
theorem dX1_doExit_30 : decode cX1_doExit 30 = .ok (.invokevirtual 588, 3) := by decide +kernel
theorem dX1_doExit_33 : decode cX1_doExit 33 = .ok (.aload_n 0, 1) := by decide +kernel
theorem dX1_doExit_34 : decode cX1_doExit 34 = .ok (.getfield 291, 3) := by decide +kernel
theorem dX1_doExit_37 : decode cX1_doExit 37 = .ok (.bipush 16, 2) := by decide +kernel
theorem dX1_doExit_39 : decode cX1_doExit 39 = .ok (.if_icmp .eq 21, 3) := by decide +kernel
theorem dX1_doExit_42 : decode cX1_doExit 42 = .ok (.aload_n 0, 1) := by decide +kernel
theorem dX1_doExit_43 : decode cX1_doExit 43 = .ok (.getfield 371, 3) := by decide +kernel
theorem dX1_doExit_46 : decode cX1_doExit 46 = .ok (.iconst 1, 1) := by decide +kernel
theorem dX1_doExit_47 : decode cX1_doExit 47 = .ok (.putfield 503, 3) := by decide +kernel
theorem dX1_doExit_50 : decode cX1_doExit 50 = .ok (.aload_n 0, 1) := by decide +kernel
theorem dX1_doExit_51 : decode cX1_doExit 51 = .ok (.getfield 371, 3) := by decide +kernel
theorem dX1_doExit_54 : decode cX1_doExit 54 = .ok (.iload_n 1, 1) := by decide +kernel
theorem dX1_doExit_55 : decode cX1_doExit 55 = .ok (.putfield 706, 3) := by decide +kernel
theorem dX1_doExit_58 : decode cX1_doExit 58 = .ok (.iconst 0, 1) := by decide +kernel
theorem dX1_doExit_59 : decode cX1_doExit 59 = .ok (.ireturn, 1) := by decide +kernel
theorem dX1_doExit_60 : decode cX1_doExit 60 = .ok (.aload_n 0, 1) := by decide +kernel
theorem dX1_doExit_61 : decode cX1_doExit 61 = .ok (.aload_n 0, 1) := by decide +kernel
theorem dX1_doExit_62 : decode cX1_doExit 62 = .ok (.getfield 371, 3) := by decide +kernel
theorem dX1_doExit_65 : decode cX1_doExit 65 = .ok (.invokevirtual 709, 3) := by decide +kernel
theorem dX1_doExit_68 : decode cX1_doExit 68 = .ok (.aload_n 0, 1) := by decide +kernel
theorem dX1_doExit_69 : decode cX1_doExit 69 = .ok (.aload_n 0, 1) := by decide +kernel
theorem dX1_doExit_70 : decode cX1_doExit 70 = .ok (.getfield 371, 3) := by decide +kernel
theorem dX1_doExit_73 : decode cX1_doExit 73 = .ok (.iload_n 1, 1) := by decide +kernel
theorem dX1_doExit_74 : decode cX1_doExit 74 = .ok (.invokevirtual 712, 3) := by decide +kernel
theorem dX1_doExit_77 : decode cX1_doExit 77 = .ok (.iconst 0, 1) := by decide +kernel
theorem dX1_doExit_78 : decode cX1_doExit 78 = .ok (.ireturn, 1) := by decide +kernel
set_option maxHeartbeats 400000 in
set_option maxRecDepth 100000 in
theorem c_X1_doExit {G : xG} {n : Nat} {Q : Outcome → xS → Prop} {x : kX} {I : xI} {R : xR} {v : kV} {th : List xTh} {mm : Nat} (hT : KT x v th) (hK : KI (I, R, th) x.N mm) {c : Int32} (hmm : mm + 200 < 16384) {me : Nat} (hme : R 0 0 19 = some me) (hme16 : me < 16) (hn : 14 ≤ n) (hq : kOs Q x (kDoExit x.N (I, R, th) me c)) : xCall G mX1_doExit n [.ref (x.ad 0 0), .int c] (kS I R x v) Q := by
  refine x_met (L0 := [(1, .ref (x.ad 0 0)), (1, .int c)]) (by decide +kernel) rfl ⟨Nat.le_of_ble_eq_true rfl, rfl⟩ ?_
  have hnb := hT.ks.nb
  unfold kDoExit at hq
  refine x_aload_n 1 dX1_doExit_0 rfl rfl ?_
  refine x_gets 4 dX1_doExit_1 rfl fl_X1_371 (hT.ks.l0 (by omega)) ((kSx.rfl (s := (I, R, th))).2 0 0 19 rfl |>.trans hme) ?_
  refine x_geti 7 dX1_doExit_4 rfl fl_X1_346 (hT.ks.l9 (by omega)) ?_
  refine x_vi (w := I 9 me 0) rfl ?_
  refine x_vi (w := nI me) (hK.nm.2 me hme16) ?_
  refine x_if_ne 20 10 dX1_doExit_7 (by decide) rfl (fun c7 => ?_) (fun c7 => ?_)
  · skip
    rw [nI_inj0 (by omega)] at c7
    rw [if_neg (by omega)] at hq
    refine x_aload_n 21 dX1_doExit_20 rfl rfl ?_
    refine x_bipush (v := 7) 23 dX1_doExit_21 rfl rfl ?_
    refine x_aload_n 24 dX1_doExit_23 rfl rfl ?_
    refine x_gets 27 dX1_doExit_24 rfl fl_X1_371 (hT.ks.l0 (by omega)) ((kSx.rfl (s := (I, R, th))).2 0 0 19 rfl |>.trans hme) ?_
    refine x_geti 30 dX1_doExit_27 rfl fl_X1_346 (hT.ks.l9 (by omega)) ?_
    refine x_vi (w := I 9 me 0) rfl ?_
    refine x_vi (w := nI me) (hK.nm.2 me hme16) ?_
    obtain ⟨r_1, hd1⟩ : ∃ r : kO, r = kAccess x.N (I, R, th) me 7 (nI me) 0 0 1 := ⟨_, rfl⟩
    rw [← hd1] at hq
    have hK_1 : KI r_1.2 x.N (mm + 1) := by rw [hd1]; exact hK.access (hoaN (g := 7) (by omega) kOf7)
    have hS_1 : kSx (I, R, th) r_1.2 := (kSx.rfl (s := (I, R, th))).trans (by rw [hd1]; exact sx_access)
    refine x_callV (as := [.int 7, .int (nI me)]) (rest := []) (i := 0) (n' := n - 1) 33 dX1_doExit_30 rfl mv_X1_588 rfl rfl (hT.ks.l0 (by omega)) (xnh rfl) (by omega) (xst (Nat.le_of_ble_eq_true rfl)) (c_X1_writes (g := 7) (oa := nI me) hT hK (hoaN (g := 7) (by omega) kOf7) (by omega) ((kSx.rfl (s := (I, R, th))).2 0 0 19 rfl |>.trans hme) hme16 (by omega) (kOutN hd1 ⟨?_, ?_⟩))
    · skip
      intro hz1 w1 hU1
      change X _ _ _ _ _ _ _ _ _ _
      rw [kU_ok hz1] at hq
      refine x_aload_n 34 dX1_doExit_33 rfl rfl ?_
      refine x_geti 37 dX1_doExit_34 rfl fl_X1_291 (hU1.ks.l0 (by omega)) ?_
      refine x_vi (w := r_1.2.1 0 0 21) rfl ?_
      refine x_bipush (v := 16) 39 dX1_doExit_37 rfl rfl ?_
      refine x_icmp_eq 60 42 dX1_doExit_39 (by decide) rfl (fun c39 => ?_) (fun c39 => ?_)
      · skip
        rw [if_pos c39] at hq
        refine x_aload_n 61 dX1_doExit_60 rfl rfl ?_
        refine x_aload_n 62 dX1_doExit_61 rfl rfl ?_
        refine x_gets 65 dX1_doExit_62 rfl fl_X1_371 (hU1.ks.l0 (by omega)) ((hS_1).2 0 0 19 rfl |>.trans hme) ?_
        obtain ⟨r_2, hd2⟩ : ∃ r : kO, r = kMeetE x.N r_1.2 me me := ⟨_, rfl⟩
        rw [← hd2] at hq
        have hKS_2 := KI.meetE (me := me) (p := me) hK_1
        rw [← hd2] at hKS_2
        obtain ⟨hK_2, hSa_2⟩ := hKS_2
        have hS_2 := (hS_1).trans hSa_2
        refine x_callV (as := [.ref (x.ad 9 me)]) (rest := []) (i := 0) (n' := n - 1) 68 dX1_doExit_65 rfl mv_X1_709 rfl rfl (hU1.ks.l0 (by omega)) (xnh rfl) (by omega) (xst (Nat.le_of_ble_eq_true rfl)) (c_X1_meetEnd (p := me) hU1 hK_1 (by omega) (by omega) ((hS_1).2 0 0 19 rfl |>.trans hme) hme16 (by omega) (kOvN hd2 ⟨fun h99 => ?_, ⟨?_, ?_⟩⟩))
        · skip
          rw [kU_no (by rw [h99]; decide)] at hq
          exact hq.1 h99
        · skip
          intro hz2 w2 hU2
          change X _ _ _ _ _ _ _ _ _ _
          rw [kU_ok hz2] at hq
          refine x_aload_n 69 dX1_doExit_68 rfl rfl ?_
          refine x_aload_n 70 dX1_doExit_69 rfl rfl ?_
          refine x_gets 73 dX1_doExit_70 rfl fl_X1_371 (hU2.ks.l0 (by omega)) ((hS_2).2 0 0 19 rfl |>.trans hme) ?_
          refine x_iload_n 74 dX1_doExit_73 rfl rfl ?_
          refine x_callV (as := [.ref (x.ad 9 me), .int c]) (rest := []) (i := 0) (n' := n - 1) 77 dX1_doExit_74 rfl mv_X1_712 rfl rfl (hU2.ks.l0 (by omega)) (xnh rfl) (by omega) (xst (Nat.le_of_ble_eq_true rfl)) (c_X1_end hU2.ks (by omega) (by omega) (kEnd_q ?_))
          change X _ _ _ _ _ _ _ _ _ _
          refine k_nmA (v := w2) (A1 := (kEndA r_2.2.1 me c)) kI_kEndA fun I1 hI1 => ?_
          refine k_nmC (v := w2) (C1 := (kEndR r_2.2.2.1 me)) kR_kEndR fun R1 hR1 => ?_
          unfold kEnd at hq
          refine x_iconst (v := 0) 78 dX1_doExit_77 rfl rfl ?_
          refine x_ireturn dX1_doExit_78 rfl ?_
          rw [hI1, hR1]
          exact hq.ret3 hU2
        · skip
          intro hz2 w2 hU2
          rw [kU_no hz2] at hq
          exact hq.no hz2 hU2
      · skip
        rw [if_neg c39] at hq
        refine x_aload_n 43 dX1_doExit_42 rfl rfl ?_
        refine x_gets 46 dX1_doExit_43 rfl fl_X1_371 (hU1.ks.l0 (by omega)) ((hS_1).2 0 0 19 rfl |>.trans hme) ?_
        refine x_iconst (v := 1) 47 dX1_doExit_46 rfl rfl ?_
        refine x_puti 50 dX1_doExit_47 rfl fl_X1_503 rfl rfl (hU1.ks.l9 (by omega)) ?_
        refine k_nmA (v := w1) (kI_xu (c := 9) rfl) fun I1 hI1 => ?_
        refine x_aload_n 51 dX1_doExit_50 rfl rfl ?_
        refine x_gets 54 dX1_doExit_51 rfl fl_X1_371 (hU1.ks.l0 (by omega)) ((hS_1).2 0 0 19 rfl |>.trans hme) ?_
        refine x_iload_n 55 dX1_doExit_54 rfl rfl ?_
        refine x_puti 58 dX1_doExit_55 rfl fl_X1_706 rfl rfl (hU1.ks.l9 (by omega)) ?_
        refine k_nmA (v := w1) (kI_xu (c := 9) rfl) fun I2 hI2 => ?_
        refine x_iconst (v := 0) 59 dX1_doExit_58 rfl rfl ?_
        refine x_ireturn dX1_doExit_59 rfl ?_
        rw [hI2, hI1]
        exact hq.ret3 hU1
    · skip
      intro hz1 w1 hU1
      rw [kU_no hz1] at hq
      exact hq.no hz1 hU1
  · skip
    rw [nI_inj0 (by omega)] at c7
    rw [if_pos (by omega)] at hq
    refine x_aload_n 11 dX1_doExit_10 rfl rfl ?_
    refine x_getz 14 dX1_doExit_11 rfl fl_X1_53 (hT.ks.l0 (by omega)) (hT.ks.z0_10 (by omega)) ?_
    refine x_bipush (v := -5) 16 dX1_doExit_14 rfl rfl ?_
    refine x_callV (as := [.int (-5)]) (rest := []) (i := 0) (n' := n - 1) 19 dX1_doExit_16 rfl mv_X1_364 rfl rfl (hT.ks.l3 (by omega)) (xnh rfl) (by omega) (xst (Nat.le_of_ble_eq_true rfl)) (c_X4_by hT.ks (by omega) ?_)
    change X _ _ _ _ _ _ _ _ _ _
    refine k_nmA (v := v) (A1 := (xu I 3 0 0 ((-5)))) (by (repeat (first | rw [kI_xu] | rw [kI_xur] | rw [kI_xfil])) <;> rfl) fun I1 hI1 => ?_
    refine x_athrow dX1_doExit_19 (xnh rfl) ?_
    rw [hI1]
    exact hq.thr (by decide) hT
