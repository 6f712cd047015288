set_option maxRecDepth 100000
noncomputable def kStepU (r : kO) (d : Nat) : kO × Nat := if r.1 = 0 then (r, if r.2.1 6 d 2 = 0 then d else iN (r.2.1 6 d 4)) else (r, d)
noncomputable def kStepE (r : kO) (tp : Nat → Int32) (fr lg : Nat → Nat) (k d : Nat) : kO × Nat :=
  if r.1 = 0 then (match iEntry r.2.1 d tp (fr k) (lg k) with
    | none => (kRefuse r.2 (-2), d)
    | some j => (r, j)) else (r, d)
/-- a step of a path from a directory -/
noncomputable def kStep (N : Nat) (s : kK) (me : Nat) (tp : Nat → Int32) (fr lg : Nat → Nat) (k d : Nat) : kO × Nat :=
  cif (¬ iDir s.1 d) (kRefuse s (-4), d) (cif (pDots tp fr lg k 1) ((0, s), d) (cif (pDots tp fr lg k 2) (if d = 0 then ((0, s), d) else kStepU (kAccess N s me 4 (nI d) 0 0 0) d)
    (kStepE (kAccE N s me tp fr lg k d 0) tp fr lg k d)))
theorem dX5_step_0 : decode cX5_step 0 = .ok (.aload_n 0, 1) := by decide +kernel
theorem dX5_step_1 : decode cX5_step 1 = .ok (.aload_n 2, 1) := by decide +kernel
theorem dX5_step_2 : decode cX5_step 2 = .ok (.invokevirtual 85, 3) := by decide +kernel
theorem dX5_step_5 : decode cX5_step 5 = .ok (.aload_n 0, 1) := by decide +kernel
theorem dX5_step_6 : decode cX5_step 6 = .ok (.iload_n 1, 1) := by decide +kernel
theorem dX5_step_7 : decode cX5_step 7 = .ok (.iconst 1, 1) := by decide +kernel
theorem dX5_step_8 : decode cX5_step 8 = .ok (.invokevirtual 38, 3) := by decide +kernel
theorem dX5_step_11 : decode cX5_step 11 = .ok (.ifCond .eq 5, 3) := by decide +kernel
theorem dX5_step_14 : decode cX5_step 14 = .ok (.aload_n 2, 1) := by decide +kernel
theorem dX5_step_15 : decode cX5_step 15 = .ok (.areturn, 1) := by decide +kernel
theorem dX5_step_16 : decode cX5_step 16 = .ok (.aload_n 0, 1) := by decide +kernel
theorem dX5_step_17 : decode cX5_step 17 = .ok (.iload_n 1, 1) := by decide +kernel
theorem dX5_step_18 : decode cX5_step 18 = .ok (.iconst 2, 1) := by decide +kernel
theorem dX5_step_19 : decode cX5_step 19 = .ok (.invokevirtual 38, 3) := by decide +kernel
theorem dX5_step_22 : decode cX5_step 22 = .ok (.ifCond .eq 48, 3) := by decide +kernel
theorem dX5_step_25 : decode cX5_step 25 = .ok (.aload_n 2, 1) := by decide +kernel
theorem dX5_step_26 : decode cX5_step 26 = .ok (.getfield 47, 3) := by decide +kernel
theorem dX5_step_29 : decode cX5_step 29 = .ok (.ifCond .ne 5, 3) := by decide +kernel
theorem dX5_step_32 : decode cX5_step 32 = .ok (.aload_n 2, 1) := by decide +kernel
theorem dX5_step_33 : decode cX5_step 33 = .ok (.areturn, 1) := by decide +kernel
theorem dX5_step_34 : decode cX5_step 34 = .ok (.aload_n 0, 1) := by decide +kernel
theorem dX5_step_35 : decode cX5_step 35 = .ok (.getfield 3, 3) := by decide +kernel
theorem dX5_step_38 : decode cX5_step 38 = .ok (.iconst 4, 1) := by decide +kernel
theorem dX5_step_39 : decode cX5_step 39 = .ok (.aload_n 2, 1) := by decide +kernel
theorem dX5_step_40 : decode cX5_step 40 = .ok (.getfield 47, 3) := by decide +kernel
theorem dX5_step_43 : decode cX5_step 43 = .ok (.invokevirtual 89, 3) := by decide +kernel
theorem dX5_step_46 : decode cX5_step 46 = .ok (.aload_n 2, 1) := by decide +kernel
theorem dX5_step_47 : decode cX5_step 47 = .ok (.getfield 93, 3) := by decide +kernel
theorem dX5_step_50 : decode cX5_step 50 = .ok (.ifCond .ne 7, 3) := by decide +kernel
theorem dX5_step_53 : decode cX5_step 53 = .ok (.aload_n 2, 1) := by decide +kernel
theorem dX5_step_54 : decode cX5_step 54 = .ok (.goto 15, 3) := by decide +kernel
theorem dX5_step_57 : decode cX5_step 57 = .ok (.aload_n 0, 1) := by decide +kernel
theorem dX5_step_58 : decode cX5_step 58 = .ok (.getfield 3, 3) := by decide +kernel
theorem dX5_step_61 : decode cX5_step 61 = .ok (.getfield 64, 3) := by decide +kernel
theorem dX5_step_64 : decode cX5_step 64 = .ok (.aload_n 2, 1) := by decide +kernel
theorem dX5_step_65 : decode cX5_step 65 = .ok (.getfield 96, 3) := by decide +kernel
theorem dX5_step_68 : decode cX5_step 68 = .ok (.aaload, 1) := by decide +kernel
theorem dX5_step_69 : decode cX5_step 69 = .ok (.areturn, 1) := by decide +kernel
theorem dX5_step_70 : decode cX5_step 70 = .ok (.aload_n 0, 1) := by decide +kernel
theorem dX5_step_71 : decode cX5_step 71 = .ok (.iload_n 1, 1) := by decide +kernel
theorem dX5_step_72 : decode cX5_step 72 = .ok (.aload_n 2, 1) := by decide +kernel
theorem dX5_step_73 : decode cX5_step 73 = .ok (.iconst 0, 1) := by decide +kernel
theorem dX5_step_74 : decode cX5_step 74 = .ok (.invokevirtual 99, 3) := by decide +kernel
theorem dX5_step_77 : decode cX5_step 77 = .ok (.aload_n 0, 1) := by decide +kernel
theorem dX5_step_78 : decode cX5_step 78 = .ok (.iload_n 1, 1) := by decide +kernel
theorem dX5_step_79 : decode cX5_step 79 = .ok (.aload_n 2, 1) := by decide +kernel
theorem dX5_step_80 : decode cX5_step 80 = .ok (.invokevirtual 102, 3) := by decide +kernel
theorem dX5_step_83 : decode cX5_step 83 = .ok (.astore_n 3, 1) := by decide +kernel
theorem dX5_step_84 : decode cX5_step 84 = .ok (.aload_n 3, 1) := by decide +kernel
theorem dX5_step_85 : decode cX5_step 85 = .ok (.ifnonnull 16, 3) := by decide +kernel
theorem dX5_step_88 : decode cX5_step 88 = .ok (.aload_n 0, 1) := by decide +kernel
theorem dX5_step_89 : decode cX5_step 89 = .ok (.getfield 3, 3) := by decide +kernel
theorem dX5_step_92 : decode cX5_step 92 = .ok (.getfield 105, 3) := by decide +kernel
theorem dX5_step_95 : decode cX5_step 95 = .ok (.bipush (-2), 2) := by decide +kernel
theorem dX5_step_97 : decode cX5_step 97 = .ok (.invokevirtual 109, 3) := by decide +kernel
theorem dX5_step_100 : decode cX5_step 100 = .ok (.athrow, 1) := by decide +kernel
theorem dX5_step_101 : decode cX5_step 101 = .ok (.aload_n 3, 1) := by decide +kernel
theorem dX5_step_102 : decode cX5_step 102 = .ok (.areturn, 1) := by decide +kernel
set_option maxHeartbeats 4000000 in
set_option maxRecDepth 100000 in
theorem c_X5_step {G : xG} {n : Nat} {Q : Outcome → xS → Prop} {x : kX} {I : xI} {R : xR} {v : kV} {th : List xTh} {mm : Nat} (hT : KT x v th) (hK : KI (I, R, th) x.N mm) {i st : Nat} (hi : i < 2) {fr lg : Nat → Nat} (hp : PS I i st fr lg) {tp : Nat → Int32} (htp : I 27 0 = tp) {k d : Nat} (hk_ : k < st) (hd : d < x.N) (hmm : mm < 16384) {me : Nat} (hme : R 0 0 19 = some me) (hme16 : me < 16) (hn : 9 ≤ n) (hq : kOut Q x (kStep x.N (I, R, th) me tp fr lg k d).1 (some (.ref (x.ad 6 (kStep x.N (I, R, th) me tp fr lg k d).2)))) : xCall G mX5_step n [.ref (x.ad 4 i), .int (nI k), .ref (x.ad 6 d)] (kS I R x v) Q := by
  refine x_met (L0 := [(1, .ref (x.ad 4 i)), (1, .int (nI k)), (1, .ref (x.ad 6 d)), xo]) (by decide +kernel) rfl ⟨Nat.le_of_ble_eq_true rfl, rfl⟩ ?_
  have hp12 := hp.2.1
  have hnb := hT.ks.nb
  refine x_aload_n 1 dX5_step_0 rfl rfl ?_
  refine x_aload_n 2 dX5_step_1 rfl rfl ?_
  refine x_callV (as := [.ref (x.ad 6 d)]) (rest := []) (i := i) (n' := n - 1) 5 dX5_step_2 rfl mv_X5_85 rfl rfl (hT.ks.l4 (by omega)) (xnh rfl) (by omega) (xst (Nat.le_of_ble_eq_true rfl)) (c_X5_directory hT.ks (by omega) (by omega) (by omega) ?_ ?_)
  · skip
    intro hdir
    change X _ _ _ _ _ _ _ _ _ _
    refine x_aload_n 6 dX5_step_5 rfl rfl ?_
    refine x_iload_n 7 dX5_step_6 rfl rfl ?_
    refine x_iconst (v := 1) 8 dX5_step_7 rfl rfl ?_
    refine x_callV (as := [.int (nI k), .int (nI 1)]) (rest := []) (i := i) (n' := n - 1) 11 dX5_step_8 rfl mv_X5_38 rfl rfl (hT.ks.l4 (by omega)) (xnh rfl) (by omega) (xst (Nat.le_of_ble_eq_true rfl)) (c_X5_isDots (I := kI I v.t) (fr := fr) (lg := lg) (k := k) (m := 1) hT.ks (by omega) hp (by omega) (by omega) (by omega) ?_)
    change X _ _ _ _ _ _ _ _ _ _
    refine x_vi (w := b2i (pDots (I 27 0) fr lg k 1)) rfl ?_
    refine x_vi (w := b2i (pDots tp fr lg k 1)) (by rw [← htp]) ?_
    refine x_if_eq 16 14 dX5_step_11 (by decide) rfl (fun c11 => ?_) (fun c11 => ?_)
    · skip
      have c11 : ¬ (pDots tp fr lg k 1) := b2i_0.mp c11
      refine x_aload_n 17 dX5_step_16 rfl rfl ?_
      refine x_iload_n 18 dX5_step_17 rfl rfl ?_
      refine x_iconst (v := 2) 19 dX5_step_18 rfl rfl ?_
      refine x_callV (as := [.int (nI k), .int (nI 2)]) (rest := []) (i := i) (n' := n - 1) 22 dX5_step_19 rfl mv_X5_38 rfl rfl (hT.ks.l4 (by omega)) (xnh rfl) (by omega) (xst (Nat.le_of_ble_eq_true rfl)) (c_X5_isDots (I := kI I v.t) (fr := fr) (lg := lg) (k := k) (m := 2) hT.ks (by omega) hp (by omega) (by omega) (by omega) ?_)
      change X _ _ _ _ _ _ _ _ _ _
      refine x_vi (w := b2i (pDots (I 27 0) fr lg k 2)) rfl ?_
      refine x_vi (w := b2i (pDots tp fr lg k 2)) (by rw [← htp]) ?_
      refine x_if_eq 70 25 dX5_step_22 (by decide) rfl (fun c22 => ?_) (fun c22 => ?_)
      · skip
        have c22 : ¬ (pDots tp fr lg k 2) := b2i_0.mp c22
        refine x_aload_n 71 dX5_step_70 rfl rfl ?_
        refine x_iload_n 72 dX5_step_71 rfl rfl ?_
        refine x_aload_n 73 dX5_step_72 rfl rfl ?_
        refine x_iconst (v := 0) 74 dX5_step_73 rfl rfl ?_
        obtain ⟨r_2, hd2⟩ : ∃ r : kO, r = kAccE x.N (I, R, th) me tp fr lg k d 0 := ⟨_, rfl⟩
        have hK_2 : KI r_2.2 x.N (mm + 1) := by rw [hd2]; exact hK.access (hoaN (by omega) kOf2)
        have hS_2 : kSx (I, R, th) r_2.2 := by rw [hd2]; exact sx_access
        refine x_callV (as := [.int (nI k), .ref (x.ad 6 d), .int 0]) (rest := []) (i := i) (n' := n - 1) 77 dX5_step_74 rfl mv_X5_99 rfl rfl (hT.ks.l4 (by omega)) (xnh rfl) (by omega) (xst (Nat.le_of_ble_eq_true rfl)) (c_X5_access (w := 0) hT hK hi hp htp hk_ hd hmm hme hme16 (by omega) (kOutN hd2 ⟨?_, ?_⟩))
        · skip
          intro hz2 w2 hU2
          change X _ _ _ _ _ _ _ _ _ _
          refine x_aload_n 78 dX5_step_77 rfl rfl ?_
          refine x_iload_n 79 dX5_step_78 rfl rfl ?_
          refine x_aload_n 80 dX5_step_79 rfl rfl ?_
          refine x_callV (as := [.int (nI k), .ref (x.ad 6 d)]) (rest := []) (i := i) (n' := n - 1) 83 dX5_step_80 rfl mv_X5_102 rfl rfl (hU2.ks.l4 (by omega)) (xnh rfl) (by omega) (xst (Nat.le_of_ble_eq_true rfl)) (c_X5_entry (I := kI r_2.2.1 w2.t) (fr := fr) (lg := lg) (k := k) hU2.ks (by omega) (show PS r_2.2.1 i st fr lg from hp.fx hS_2.1) (by omega) (by omega) (fun d_ s_ _ _ => (hK_2.wf).now d_ s_) (by omega) ?_)
          change X _ _ _ _ _ _ _ _ _ _
          refine x_vr (w := iEntry r_2.2.1 d tp (fr k) (lg k)) (by rw [← tp_fx htp hS_2.1]; rfl) ?_
          refine x_nmr fun r1 hr1 => ?_
          refine x_astore_nr 84 [(1, .ref (x.ad 4 i)), (1, .int (nI k)), (1, .ref (x.ad 6 d)), (1, va_re (x.ad 6) r1)] dX5_step_83 rfl (by decide) rfl ?_
          refine x_aload_nr 85 dX5_step_84 rfl rfl ?_
          refine x_ifnonnull 101 88 dX5_step_85 (by decide) rfl (fun j1 c85 => ?_) (fun c85 => ?_)
          · skip
            refine x_aload_nr 102 dX5_step_101 rfl rfl ?_
            refine x_some c85 ?_
            refine x_areturn dX5_step_102 rfl (Or.inl ⟨_, rfl⟩) ?_
            unfold kStep at hq
            rw [cif_f (fun h => h hdir), cif_f c11, cif_f c22, ← hd2] at hq
            unfold kStepE at hq; rw [if_pos hz2] at hq
            rw [← hr1, c85] at hq
            exact hq.1 hz2 _ hU2
          · skip
            refine x_aload_n 89 dX5_step_88 rfl rfl ?_
            refine x_getz 92 dX5_step_89 rfl fl_X5_3 (hU2.ks.l4 (by omega)) (hU2.ks.z4_4 (by omega)) ?_
            refine x_getz 95 dX5_step_92 rfl fl_X5_105 (hU2.ks.l0 (by omega)) (hU2.ks.z0_10 (by omega)) ?_
            refine x_bipush (v := -2) 97 dX5_step_95 rfl rfl ?_
            refine x_callV (as := [.int (-2)]) (rest := []) (i := 0) (n' := n - 1) 100 dX5_step_97 rfl mv_X5_109 rfl rfl (hU2.ks.l3 (by omega)) (xnh rfl) (by omega) (xst (Nat.le_of_ble_eq_true rfl)) (c_X4_by hU2.ks (by omega) ?_)
            change X _ _ _ _ _ _ _ _ _ _
            refine k_nmA (v := w2) (A1 := (xu r_2.2.1 3 0 0 ((-2)))) (by (repeat (first | rw [kI_xu] | rw [kI_xur] | rw [kI_xfil])) <;> rfl) fun I1 hI1 => ?_
            refine x_athrow dX5_step_100 (xnh rfl) ?_
            unfold kStep at hq; rw [cif_f (fun h => h hdir), cif_f c11, cif_f c22, ← hd2] at hq
            unfold kStepE at hq; rw [if_pos hz2] at hq
            rw [← hr1, c85] at hq
            rw [hI1]
            exact hq.2 (show ¬ (-2 : Int32) = 0 by decide) _ hU2
        · skip
          intro hz2 w2 hU2
          unfold kStep at hq; rw [cif_f (fun h => h hdir), cif_f c11, cif_f c22, ← hd2] at hq
          unfold kStepE at hq; rw [if_neg hz2] at hq
          exact hq.2 hz2 _ hU2
      · skip
        have c22 : pDots tp fr lg k 2 := b2i_n0.mp c22
        refine x_aload_n 26 dX5_step_25 rfl rfl ?_
        refine x_geti 29 dX5_step_26 rfl fl_X5_47 (hT.ks.l6 (by omega)) ?_
        refine x_vi (w := I 6 d 0) rfl ?_
        refine x_vi (w := nI d) (hK.nm.1 d hd) ?_
        refine x_if_ne 34 32 dX5_step_29 (by decide) rfl (fun c29 => ?_) (fun c29 => ?_)
        · skip
          rw [nI_inj0 (by omega)] at c29
          refine x_aload_n 35 dX5_step_34 rfl rfl ?_
          refine x_getz 38 dX5_step_35 rfl fl_X5_3 (hT.ks.l4 (by omega)) (hT.ks.z4_4 (by omega)) ?_
          refine x_iconst (v := 4) 39 dX5_step_38 rfl rfl ?_
          refine x_aload_n 40 dX5_step_39 rfl rfl ?_
          refine x_geti 43 dX5_step_40 rfl fl_X5_47 (hT.ks.l6 (by omega)) ?_
          refine x_vi (w := I 6 d 0) rfl ?_
          refine x_vi (w := nI d) (hK.nm.1 d hd) ?_
          obtain ⟨r_1, hd1⟩ : ∃ r : kO, r = kAccess x.N (I, R, th) me 4 (nI d) 0 0 0 := ⟨_, rfl⟩
          have hK_1 : KI r_1.2 x.N (mm + 1) := by rw [hd1]; exact hK.access (hoaN (by omega) (kOf4 hd))
          have hS_1 : kSx (I, R, th) r_1.2 := by rw [hd1]; exact sx_access
          refine x_callV (as := [.int 4, .int (nI d)]) (rest := []) (i := 0) (n' := n - 1) 46 dX5_step_43 rfl mv_X5_89 rfl rfl (hT.ks.l0 (by omega)) (xnh rfl) (by omega) (xst (Nat.le_of_ble_eq_true rfl)) (c_X1_reads (g := 4) (oa := nI d) hT hK (hoaN (by omega) (kOf4 hd)) hmm hme hme16 (by omega) (kOutN hd1 ⟨?_, ?_⟩))
          · skip
            intro hz1 w1 hU1
            change X _ _ _ _ _ _ _ _ _ _
            refine x_aload_n 47 dX5_step_46 rfl rfl ?_
            refine x_geti 50 dX5_step_47 rfl fl_X5_93 (hU1.ks.l6 (by omega)) ?_
            refine x_vi (w := r_1.2.1 6 d 2) rfl ?_
            refine x_if_ne 57 53 dX5_step_50 (by decide) rfl (fun c50 => ?_) (fun c50 => ?_)
            · skip
              have hup := (hK_1.wf.up d).2
              refine x_aload_n 58 dX5_step_57 rfl rfl ?_
              refine x_getz 61 dX5_step_58 rfl fl_X5_3 (hU1.ks.l4 (by omega)) (hU1.ks.z4_4 (by omega)) ?_
              refine x_getz 64 dX5_step_61 rfl fl_X5_64 (hU1.ks.l0 (by omega)) (hU1.ks.z0_5 (by omega)) ?_
              refine x_aload_n 65 dX5_step_64 rfl rfl ?_
              refine x_geti 68 dX5_step_65 rfl fl_X5_96 (hU1.ks.l6 (by omega)) ?_
              refine x_vi (w := r_1.2.1 6 d 4) rfl ?_
              refine x_vi (w := nI (iN (r_1.2.1 6 d 4))) (hK_1.wf.up d).1 ?_
              refine x_aldz 69 dX5_step_68 rfl ar_23 rfl (hU1.ks.l23 (by omega)) (xb (hU1.ks.n23 (by omega)) (by omega) (by omega)) (hU1.ks.z23 (by omega)) ?_
              refine x_areturn dX5_step_69 rfl (Or.inl ⟨_, rfl⟩) ?_
              unfold kStep at hq
              rw [cif_f (fun h => h hdir), cif_f c11, cif_t c22, if_neg c29, ← hd1] at hq
              unfold kStepU at hq; rw [if_pos hz1, if_neg c50] at hq
              exact hq.1 hz1 _ hU1
            · skip
              refine x_aload_n 54 dX5_step_53 rfl rfl ?_
              refine x_goto 69 dX5_step_54 (by decide) ?_
              refine x_areturn dX5_step_69 rfl (Or.inl ⟨_, rfl⟩) ?_
              unfold kStep at hq
              rw [cif_f (fun h => h hdir), cif_f c11, cif_t c22, if_neg c29, ← hd1] at hq
              unfold kStepU at hq; rw [if_pos hz1, if_pos c50] at hq
              exact hq.1 hz1 _ hU1
          · skip
            intro hz1 w1 hU1
            unfold kStep at hq; rw [cif_f (fun h => h hdir), cif_f c11, cif_t c22, if_neg c29, ← hd1] at hq
            unfold kStepU at hq; rw [if_neg hz1] at hq
            exact hq.2 hz1 _ hU1
        · skip
          rw [nI_inj0 (by omega)] at c29
          refine x_aload_n 33 dX5_step_32 rfl rfl ?_
          refine x_areturn dX5_step_33 rfl (Or.inl ⟨_, rfl⟩) ?_
          unfold kStep at hq
          rw [cif_f (fun h => h hdir), cif_f c11, cif_t c22, if_pos c29] at hq
          exact hq.1 rfl _ hT
    · skip
      have c11 : pDots tp fr lg k 1 := b2i_n0.mp c11
      refine x_aload_n 15 dX5_step_14 rfl rfl ?_
      refine x_areturn dX5_step_15 rfl (Or.inl ⟨_, rfl⟩) ?_
      unfold kStep at hq
      rw [cif_f (fun h => h hdir), cif_t c11] at hq
      exact hq.1 rfl _ hT
  · skip
    intro hdir
    have hdir2 : ¬ iDir I d := hdir
    unfold kStep at hq; rw [cif_t (show ¬ iDir (I, R, th).1 d from hdir2)] at hq
    rw [kI_xu (c := 3) rfl]
    exact hq.2 (show ¬ (-4 : Int32) = 0 by decide) _ hT
