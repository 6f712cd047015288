set_option maxRecDepth 100000
noncomputable def kDoLook (N : Nat) (s : kK) (me : Nat) (tp : Nat → Int32) (fr lg : Nat → Nat) (st : Nat) (wh : Int32) : kQ :=
  kB (kFnd N s me 0 tp fr lg st) fun s f => if wh = 0 then kRt s (s.1 6 f 1) else if wh = 1 then kU (kAccess N s me (cif (iDir s.1 f) 4 1) (nI f) 0 0 0) fun s => kRt s (s.1 6 f 2)
    else kU (kAccess N s me (cif (iDir s.1 f) 3 0) (nI f) 0 0 0) fun s => cif (iDir s.1 f) (kRt s (nI (iEntries s.1 f))) (kRt s (s.1 6 f 3))
theorem dX1_doLook_0 : decode cX1_doLook 0 = .ok (.aload_n 0, 1) := by decide +kernel
theorem dX1_doLook_1 : decode cX1_doLook 1 = .ok (.getfield 76, 3) := by decide +kernel
theorem dX1_doLook_4 : decode cX1_doLook 4 = .ok (.invokevirtual 573, 3) := by decide +kernel
theorem dX1_doLook_7 : decode cX1_doLook 7 = .ok (.astore_n 2, 1) := by decide +kernel
theorem dX1_doLook_8 : decode cX1_doLook 8 = .ok (.iload_n 1, 1) := by decide +kernel
theorem dX1_doLook_9 : decode cX1_doLook 9 = .ok (.ifCond .ne 8, 3) := by decide +kernel
theorem dX1_doLook_12 : decode cX1_doLook 12 = .ok (.aload_n 2, 1) := by decide +kernel
theorem dX1_doLook_13 : decode cX1_doLook 13 = .ok (.getfield 182, 3) := by decide +kernel
theorem dX1_doLook_16 : decode cX1_doLook 16 = .ok (.ireturn, 1) := by decide +kernel
theorem dX1_doLook_17 : decode cX1_doLook 17 = .ok (.iload_n 1, 1) := by decide +kernel
theorem dX1_doLook_18 : decode cX1_doLook 18 = .ok (.iconst 1, 1) := by decide +kernel
theorem dX1_doLook_19 : decode cX1_doLook 19 = .ok (.if_icmp .ne 28, 3) := by decide +kernel
theorem dX1_doLook_22 : decode cX1_doLook 22 = .ok (.aload_n 0, 1) := by decide +kernel
theorem dX1_doLook_23 : decode cX1_doLook 23 = .ok (.aload_n 2, 1) := by decide +kernel
theorem dX1_doLook_24 : decode cX1_doLook 24 = .ok (.invokevirtual 403, 3) := by decide +kernel
theorem dX1_doLook_27 : decode cX1_doLook 27 = .ok (.ifCond .eq 7, 3) := by decide +kernel
theorem dX1_doLook_30 : decode cX1_doLook 30 = .ok (.iconst 4, 1) := by decide +kernel
theorem dX1_doLook_31 : decode cX1_doLook 31 = .ok (.goto 4, 3) := by decide +kernel
theorem dX1_doLook_34 : decode cX1_doLook 34 = .ok (.iconst 1, 1) := by decide +kernel
theorem dX1_doLook_35 : decode cX1_doLook 35 = .ok (.aload_n 2, 1) := by decide +kernel
theorem dX1_doLook_36 : decode cX1_doLook 36 = .ok (.getfield 448, 3) := by decide +kernel
theorem dX1_doLook_39 : decode cX1_doLook 39 = .ok (.invokevirtual 650, 3) := by decide +kernel
theorem dX1_doLook_42 : decode cX1_doLook 42 = .ok (.aload_n 2, 1) := by decide +kernel
theorem dX1_doLook_43 : decode cX1_doLook 43 = .ok (.getfield 185, 3) := by decide +kernel
theorem dX1_doLook_46 : decode cX1_doLook 46 = .ok (.ireturn, 1) := by decide +kernel
theorem dX1_doLook_47 : decode cX1_doLook 47 = .ok (.aload_n 0, 1) := by decide +kernel
theorem dX1_doLook_48 : decode cX1_doLook 48 = .ok (.aload_n 2, 1) := by decide +kernel
theorem dX1_doLook_49 : decode cX1_doLook 49 = .ok (.invokevirtual 403, 3) := by decide +kernel
theorem dX1_doLook_52 : decode cX1_doLook 52 = .ok (.ifCond .eq 7, 3) := by decide +kernel
theorem dX1_doLook_55 : decode cX1_doLook 55 = .ok (.iconst 3, 1) := by decide +kernel
theorem dX1_doLook_56 : decode cX1_doLook 56 = .ok (.goto 4, 3) := by decide +kernel
theorem dX1_doLook_59 : decode cX1_doLook 59 = .ok (.iconst 0, 1) := by decide +kernel
theorem dX1_doLook_60 : decode cX1_doLook 60 = .ok (.aload_n 2, 1) := by decide +kernel
theorem dX1_doLook_61 : decode cX1_doLook 61 = .ok (.getfield 448, 3) := by decide +kernel
theorem dX1_doLook_64 : decode cX1_doLook 64 = .ok (.invokevirtual 650, 3) := by decide +kernel
theorem dX1_doLook_67 : decode cX1_doLook 67 = .ok (.aload_n 2, 1) := by decide +kernel
theorem dX1_doLook_68 : decode cX1_doLook 68 = .ok (.invokevirtual 403, 3) := by decide +kernel
theorem dX1_doLook_71 : decode cX1_doLook 71 = .ok (.ifCond .eq 10, 3) := by decide +kernel
theorem dX1_doLook_74 : decode cX1_doLook 74 = .ok (.aload_n 2, 1) := by decide +kernel
theorem dX1_doLook_75 : decode cX1_doLook 75 = .ok (.invokevirtual 671, 3) := by decide +kernel
theorem dX1_doLook_78 : decode cX1_doLook 78 = .ok (.goto 7, 3) := by decide +kernel
theorem dX1_doLook_81 : decode cX1_doLook 81 = .ok (.aload_n 2, 1) := by decide +kernel
theorem dX1_doLook_82 : decode cX1_doLook 82 = .ok (.getfield 285, 3) := by decide +kernel
theorem dX1_doLook_85 : decode cX1_doLook 85 = .ok (.ireturn, 1) := by decide +kernel
set_option maxHeartbeats 4000000 in
set_option maxRecDepth 100000 in
theorem c_X1_doLook {G : xG} {n : Nat} {Q : Outcome → xS → Prop} {x : kX} {I : xI} {R : xR} {v : kV} {th : List xTh} {mm : Nat} (hT : KT x v th) (hK : KI (I, R, th) x.N mm) {st : Nat} {fr lg : Nat → Nat} (hp : PS I 0 st fr lg) {tp : Nat → Int32} (htp : I 27 0 = tp) {wh : Int32} (hmm : mm + 100 < 16384) {me : Nat} (hme : R 0 0 19 = some me) (hme16 : me < 16) (hn : 14 ≤ n) (hq : kOs Q x (kDoLook x.N (I, R, th) me tp fr lg st wh)) : xCall G mX1_doLook n [.ref (x.ad 0 0), .int wh] (kS I R x v) Q := by
  refine x_met (L0 := [(1, .ref (x.ad 0 0)), (1, .int wh), xo]) (by decide +kernel) rfl ⟨Nat.le_of_ble_eq_true rfl, rfl⟩ ?_
  have hnb := hT.ks.nb
  unfold kDoLook at hq
  have hp12 := hp.2.1
  refine x_aload_n 1 dX1_doLook_0 rfl rfl ?_
  refine x_getz 4 dX1_doLook_1 rfl fl_X1_76 (hT.ks.l0 (by omega)) (hT.ks.z0_23 (by omega)) ?_
  try unfold kFnd at hq
  obtain ⟨hw_1, hq⟩ := hq.asB
  have hwk_1 := kWk_some hw_1
  have hwN_1 := hK.rf.wk hwk_1
  obtain ⟨r_1, hd1⟩ : ∃ r : kO × Nat, r = kWalk x.N (I, R, th) me tp fr lg (kBeg ((I, R, th)).1 0 (kWk (I, R, th) me)) st := ⟨_, rfl⟩
  rw [← hd1] at hq
  have hKS_1 := KI.walk (me := me) (tp := tp) (fr := fr) (lg := lg) hK (d := (kBeg ((I, R, th)).1 0 (kWk (I, R, th) me))) (kBeg_lt hwN_1) (by omega) st
  rw [← hd1] at hKS_1
  obtain ⟨hKa_1, hSa_1, hdN_1⟩ := hKS_1
  have hK_1 := hKa_1.le (m' := mm + 12) (by omega)
  have hS_1 := (kSx.rfl (s := (I, R, th))).trans hSa_1
  refine x_callV (as := []) (rest := []) (i := 0) (n' := n - 1) 7 dX1_doLook_4 rfl mv_X1_573 rfl rfl (hT.ks.l4 (by omega)) (xnh rfl) (by omega) (xst (Nat.le_of_ble_eq_true rfl)) (c_X5_find (i := 0) (fr := fr) (lg := lg) hT hK (by omega) (hp.fx (kSx.rfl (s := (I, R, th))).1) (tp_fx htp (kSx.rfl (s := (I, R, th))).1) (by omega) ((kSx.rfl (s := (I, R, th))).2 0 0 19 rfl |>.trans hme) hme16 hwk_1 hwN_1 (by omega) (kOutP hd1 ⟨?_, ?_⟩))
  · skip
    intro hz1 w1 hU1
    change X _ _ _ _ _ _ _ _ _ _
    rw [kB_ok hz1] at hq
    refine x_astore_n 8 [(1, .ref (x.ad 0 0)), (1, .int wh), (1, .ref (x.ad 6 r_1.2))] dX1_doLook_7 rfl (by decide) rfl ?_
    refine x_iload_n 9 dX1_doLook_8 rfl rfl ?_
    refine x_if_ne 17 12 dX1_doLook_9 (by decide) rfl (fun c9 => ?_) (fun c9 => ?_)
    · skip
      rw [if_neg c9] at hq
      refine x_iload_n 18 dX1_doLook_17 rfl rfl ?_
      refine x_iconst (v := 1) 19 dX1_doLook_18 rfl rfl ?_
      refine x_icmp_ne 47 22 dX1_doLook_19 (by decide) rfl (fun c19 => ?_) (fun c19 => ?_)
      · skip
        rw [if_neg c19] at hq
        refine x_aload_n 48 dX1_doLook_47 rfl rfl ?_
        refine x_aload_n 49 dX1_doLook_48 rfl rfl ?_
        refine x_callV (as := []) (rest := [.ref (x.ad 0 0)]) (i := r_1.2) (n' := n - 1) 52 dX1_doLook_49 rfl mv_X1_403 rfl rfl (hU1.ks.l6 (by omega)) (xnh rfl) (by omega) (xst (Nat.le_of_ble_eq_true rfl)) (c_X7_isDirectory hU1.ks (by omega) (by omega) ?_)
        change X _ _ _ _ _ _ _ _ _ _
        refine x_vi (w := b2i (iDir r_1.1.2.1 r_1.2)) rfl ?_
        refine x_if_eq 59 55 dX1_doLook_52 (by decide) rfl (fun c52 => ?_) (fun c52 => ?_)
        · skip
          have c52 : ¬ (iDir r_1.1.2.1 r_1.2) := b2i_0.mp c52
          rw [cif_f c52] at hq
          refine x_iconst (v := 0) 60 dX1_doLook_59 rfl rfl ?_
          refine x_aload_n 61 dX1_doLook_60 rfl rfl ?_
          refine x_geti 64 dX1_doLook_61 rfl fl_X1_448 (hU1.ks.l6 (by omega)) ?_
          refine x_vi (w := r_1.1.2.1 6 r_1.2 0) rfl ?_
          refine x_vi (w := nI r_1.2) (hK_1.nm.1 r_1.2 (by omega)) ?_
          obtain ⟨r_2, hd2⟩ : ∃ r : kO, r = kAccess x.N r_1.1.2 me 0 (nI r_1.2) 0 0 0 := ⟨_, rfl⟩
          rw [← hd2] at hq
          have hK_2 : KI r_2.2 x.N ((mm + 12) + 1) := by rw [hd2]; exact hK_1.access (hoaN (g := 0) (by omega) (kOf0 (by omega)))
          have hS_2 : kSx (I, R, th) r_2.2 := (hS_1).trans (by rw [hd2]; exact sx_access)
          refine x_callV (as := [.int 0, .int (nI r_1.2)]) (rest := []) (i := 0) (n' := n - 1) 67 dX1_doLook_64 rfl mv_X1_650 rfl rfl (hU1.ks.l0 (by omega)) (xnh rfl) (by omega) (xst (Nat.le_of_ble_eq_true rfl)) (c_X1_reads (g := 0) (oa := nI r_1.2) hU1 hK_1 (hoaN (g := 0) (by omega) (kOf0 (by omega))) (by omega) ((hS_1).2 0 0 19 rfl |>.trans hme) hme16 (by omega) (kOutN hd2 ⟨?_, ?_⟩))
          · skip
            intro hz2 w2 hU2
            change X _ _ _ _ _ _ _ _ _ _
            rw [kU_ok hz2] at hq
            refine x_aload_n 68 dX1_doLook_67 rfl rfl ?_
            refine x_callV (as := []) (rest := []) (i := r_1.2) (n' := n - 1) 71 dX1_doLook_68 rfl mv_X1_403 rfl rfl (hU2.ks.l6 (by omega)) (xnh rfl) (by omega) (xst (Nat.le_of_ble_eq_true rfl)) (c_X7_isDirectory hU2.ks (by omega) (by omega) ?_)
            change X _ _ _ _ _ _ _ _ _ _
            refine x_vi (w := b2i (iDir r_2.2.1 r_1.2)) rfl ?_
            refine x_if_eq 81 74 dX1_doLook_71 (by decide) rfl (fun c71 => ?_) (fun c71 => ?_)
            · skip
              have c71 : ¬ (iDir r_2.2.1 r_1.2) := b2i_0.mp c71
              rw [cif_f c71] at hq
              refine x_aload_n 82 dX1_doLook_81 rfl rfl ?_
              refine x_geti 85 dX1_doLook_82 rfl fl_X1_285 (hU2.ks.l6 (by omega)) ?_
              refine x_vi (w := r_2.2.1 6 r_1.2 3) rfl ?_
              refine x_ireturn dX1_doLook_85 rfl ?_
              exact hq.ret hU2
            · skip
              have c71 : iDir r_2.2.1 r_1.2 := b2i_n0.mp c71
              rw [cif_t c71] at hq
              refine x_aload_n 75 dX1_doLook_74 rfl rfl ?_
              refine x_callV (as := []) (rest := []) (i := r_1.2) (n' := n - 1) 78 dX1_doLook_75 rfl mv_X1_671 rfl rfl (hU2.ks.l6 (by omega)) (xnh rfl) (by omega) (xst (Nat.le_of_ble_eq_true rfl)) (c_X7_entries hU2.ks (by omega) (by omega) ?_)
              change X _ _ _ _ _ _ _ _ _ _
              refine x_vi (w := nI (iEntries r_2.2.1 r_1.2)) rfl ?_
              refine x_goto 85 dX1_doLook_78 (by decide) ?_
              refine x_ireturn dX1_doLook_85 rfl ?_
              exact hq.ret hU2
          · skip
            intro hz2 w2 hU2
            rw [kU_no hz2] at hq
            exact hq.no hz2 hU2
        · skip
          have c52 : iDir r_1.1.2.1 r_1.2 := b2i_n0.mp c52
          rw [cif_t c52] at hq
          refine x_iconst (v := 3) 56 dX1_doLook_55 rfl rfl ?_
          refine x_goto 60 dX1_doLook_56 (by decide) ?_
          refine x_aload_n 61 dX1_doLook_60 rfl rfl ?_
          refine x_geti 64 dX1_doLook_61 rfl fl_X1_448 (hU1.ks.l6 (by omega)) ?_
          refine x_vi (w := r_1.1.2.1 6 r_1.2 0) rfl ?_
          refine x_vi (w := nI r_1.2) (hK_1.nm.1 r_1.2 (by omega)) ?_
          obtain ⟨r_2, hd2⟩ : ∃ r : kO, r = kAccess x.N r_1.1.2 me 3 (nI r_1.2) 0 0 0 := ⟨_, rfl⟩
          rw [← hd2] at hq
          have hK_2 : KI r_2.2 x.N ((mm + 12) + 1) := by rw [hd2]; exact hK_1.access (hoaN (g := 3) (by omega) kOf3)
          have hS_2 : kSx (I, R, th) r_2.2 := (hS_1).trans (by rw [hd2]; exact sx_access)
          refine x_callV (as := [.int 3, .int (nI r_1.2)]) (rest := []) (i := 0) (n' := n - 1) 67 dX1_doLook_64 rfl mv_X1_650 rfl rfl (hU1.ks.l0 (by omega)) (xnh rfl) (by omega) (xst (Nat.le_of_ble_eq_true rfl)) (c_X1_reads (g := 3) (oa := nI r_1.2) hU1 hK_1 (hoaN (g := 3) (by omega) kOf3) (by omega) ((hS_1).2 0 0 19 rfl |>.trans hme) hme16 (by omega) (kOutN hd2 ⟨?_, ?_⟩))
          · skip
            intro hz2 w2 hU2
            change X _ _ _ _ _ _ _ _ _ _
            rw [kU_ok hz2] at hq
            refine x_aload_n 68 dX1_doLook_67 rfl rfl ?_
            refine x_callV (as := []) (rest := []) (i := r_1.2) (n' := n - 1) 71 dX1_doLook_68 rfl mv_X1_403 rfl rfl (hU2.ks.l6 (by omega)) (xnh rfl) (by omega) (xst (Nat.le_of_ble_eq_true rfl)) (c_X7_isDirectory hU2.ks (by omega) (by omega) ?_)
            change X _ _ _ _ _ _ _ _ _ _
            refine x_vi (w := b2i (iDir r_2.2.1 r_1.2)) rfl ?_
            refine x_if_eq 81 74 dX1_doLook_71 (by decide) rfl (fun c71 => ?_) (fun c71 => ?_)
            · skip
              have c71 : ¬ (iDir r_2.2.1 r_1.2) := b2i_0.mp c71
              rw [cif_f c71] at hq
              refine x_aload_n 82 dX1_doLook_81 rfl rfl ?_
              refine x_geti 85 dX1_doLook_82 rfl fl_X1_285 (hU2.ks.l6 (by omega)) ?_
              refine x_vi (w := r_2.2.1 6 r_1.2 3) rfl ?_
              refine x_ireturn dX1_doLook_85 rfl ?_
              exact hq.ret hU2
            · skip
              have c71 : iDir r_2.2.1 r_1.2 := b2i_n0.mp c71
              rw [cif_t c71] at hq
              refine x_aload_n 75 dX1_doLook_74 rfl rfl ?_
              refine x_callV (as := []) (rest := []) (i := r_1.2) (n' := n - 1) 78 dX1_doLook_75 rfl mv_X1_671 rfl rfl (hU2.ks.l6 (by omega)) (xnh rfl) (by omega) (xst (Nat.le_of_ble_eq_true rfl)) (c_X7_entries hU2.ks (by omega) (by omega) ?_)
              change X _ _ _ _ _ _ _ _ _ _
              refine x_vi (w := nI (iEntries r_2.2.1 r_1.2)) rfl ?_
              refine x_goto 85 dX1_doLook_78 (by decide) ?_
              refine x_ireturn dX1_doLook_85 rfl ?_
              exact hq.ret hU2
          · skip
            intro hz2 w2 hU2
            rw [kU_no hz2] at hq
            exact hq.no hz2 hU2
      · skip
        rw [if_pos c19] at hq
        refine x_aload_n 23 dX1_doLook_22 rfl rfl ?_
        refine x_aload_n 24 dX1_doLook_23 rfl rfl ?_
        refine x_callV (as := []) (rest := [.ref (x.ad 0 0)]) (i := r_1.2) (n' := n - 1) 27 dX1_doLook_24 rfl mv_X1_403 rfl rfl (hU1.ks.l6 (by omega)) (xnh rfl) (by omega) (xst (Nat.le_of_ble_eq_true rfl)) (c_X7_isDirectory hU1.ks (by omega) (by omega) ?_)
        change X _ _ _ _ _ _ _ _ _ _
        refine x_vi (w := b2i (iDir r_1.1.2.1 r_1.2)) rfl ?_
        refine x_if_eq 34 30 dX1_doLook_27 (by decide) rfl (fun c27 => ?_) (fun c27 => ?_)
        · skip
          have c27 : ¬ (iDir r_1.1.2.1 r_1.2) := b2i_0.mp c27
          rw [cif_f c27] at hq
          refine x_iconst (v := 1) 35 dX1_doLook_34 rfl rfl ?_
          refine x_aload_n 36 dX1_doLook_35 rfl rfl ?_
          refine x_geti 39 dX1_doLook_36 rfl fl_X1_448 (hU1.ks.l6 (by omega)) ?_
          refine x_vi (w := r_1.1.2.1 6 r_1.2 0) rfl ?_
          refine x_vi (w := nI r_1.2) (hK_1.nm.1 r_1.2 (by omega)) ?_
          obtain ⟨r_2, hd2⟩ : ∃ r : kO, r = kAccess x.N r_1.1.2 me 1 (nI r_1.2) 0 0 0 := ⟨_, rfl⟩
          rw [← hd2] at hq
          have hK_2 : KI r_2.2 x.N ((mm + 12) + 1) := by rw [hd2]; exact hK_1.access (hoaN (g := 1) (by omega) (kOf1 (by omega)))
          have hS_2 : kSx (I, R, th) r_2.2 := (hS_1).trans (by rw [hd2]; exact sx_access)
          refine x_callV (as := [.int 1, .int (nI r_1.2)]) (rest := []) (i := 0) (n' := n - 1) 42 dX1_doLook_39 rfl mv_X1_650 rfl rfl (hU1.ks.l0 (by omega)) (xnh rfl) (by omega) (xst (Nat.le_of_ble_eq_true rfl)) (c_X1_reads (g := 1) (oa := nI r_1.2) hU1 hK_1 (hoaN (g := 1) (by omega) (kOf1 (by omega))) (by omega) ((hS_1).2 0 0 19 rfl |>.trans hme) hme16 (by omega) (kOutN hd2 ⟨?_, ?_⟩))
          · skip
            intro hz2 w2 hU2
            change X _ _ _ _ _ _ _ _ _ _
            rw [kU_ok hz2] at hq
            refine x_aload_n 43 dX1_doLook_42 rfl rfl ?_
            refine x_geti 46 dX1_doLook_43 rfl fl_X1_185 (hU2.ks.l6 (by omega)) ?_
            refine x_vi (w := r_2.2.1 6 r_1.2 2) rfl ?_
            refine x_ireturn dX1_doLook_46 rfl ?_
            exact hq.ret hU2
          · skip
            intro hz2 w2 hU2
            rw [kU_no hz2] at hq
            exact hq.no hz2 hU2
        · skip
          have c27 : iDir r_1.1.2.1 r_1.2 := b2i_n0.mp c27
          rw [cif_t c27] at hq
          refine x_iconst (v := 4) 31 dX1_doLook_30 rfl rfl ?_
          refine x_goto 35 dX1_doLook_31 (by decide) ?_
          refine x_aload_n 36 dX1_doLook_35 rfl rfl ?_
          refine x_geti 39 dX1_doLook_36 rfl fl_X1_448 (hU1.ks.l6 (by omega)) ?_
          refine x_vi (w := r_1.1.2.1 6 r_1.2 0) rfl ?_
          refine x_vi (w := nI r_1.2) (hK_1.nm.1 r_1.2 (by omega)) ?_
          obtain ⟨r_2, hd2⟩ : ∃ r : kO, r = kAccess x.N r_1.1.2 me 4 (nI r_1.2) 0 0 0 := ⟨_, rfl⟩
          rw [← hd2] at hq
          have hK_2 : KI r_2.2 x.N ((mm + 12) + 1) := by rw [hd2]; exact hK_1.access (hoaN (g := 4) (by omega) (kOf4 (by omega)))
          have hS_2 : kSx (I, R, th) r_2.2 := (hS_1).trans (by rw [hd2]; exact sx_access)
          refine x_callV (as := [.int 4, .int (nI r_1.2)]) (rest := []) (i := 0) (n' := n - 1) 42 dX1_doLook_39 rfl mv_X1_650 rfl rfl (hU1.ks.l0 (by omega)) (xnh rfl) (by omega) (xst (Nat.le_of_ble_eq_true rfl)) (c_X1_reads (g := 4) (oa := nI r_1.2) hU1 hK_1 (hoaN (g := 4) (by omega) (kOf4 (by omega))) (by omega) ((hS_1).2 0 0 19 rfl |>.trans hme) hme16 (by omega) (kOutN hd2 ⟨?_, ?_⟩))
          · skip
            intro hz2 w2 hU2
            change X _ _ _ _ _ _ _ _ _ _
            rw [kU_ok hz2] at hq
            refine x_aload_n 43 dX1_doLook_42 rfl rfl ?_
            refine x_geti 46 dX1_doLook_43 rfl fl_X1_185 (hU2.ks.l6 (by omega)) ?_
            refine x_vi (w := r_2.2.1 6 r_1.2 2) rfl ?_
            refine x_ireturn dX1_doLook_46 rfl ?_
            exact hq.ret hU2
          · skip
            intro hz2 w2 hU2
            rw [kU_no hz2] at hq
            exact hq.no hz2 hU2
    · skip
      rw [if_pos c9] at hq
      refine x_aload_n 13 dX1_doLook_12 rfl rfl ?_
      refine x_geti 16 dX1_doLook_13 rfl fl_X1_182 (hU1.ks.l6 (by omega)) ?_
      refine x_vi (w := r_1.1.2.1 6 r_1.2 1) rfl ?_
      refine x_ireturn dX1_doLook_16 rfl ?_
      exact hq.ret hU1
  · skip
    intro hz1 w1 hU1
    rw [kB_no hz1] at hq
    exact hq.no hz1 hU1
noncomputable def kDoLink (N : Nat) (s : kK) (me : Nat) (tp : Nat → Int32) (fr lg : Nat → Nat) (st : Nat) (fr2 lg2 : Nat → Nat) (st2 : Nat) : kQ :=
  kB (kFnd N s me 0 tp fr lg st) fun s f => cif (iDir s.1 f) (kRf s (-4)) (kB (kLst N s me 1 tp fr2 lg2 st2) fun s d => match iEntry s.1 d tp (fr2 (st2 - 1)) (lg2 (st2 - 1)) with
    | some _ => kRf s (-3)
    | none => if iNamesFor s.1 d (s.1 0 0 21) = 0 then kRf s (-2) else kU (kAccess N s me 1 (nI f) 0 0 0) fun s => if s.1 6 f 2 = 200 then kRf s (-11) else
      kBI (kTake N s me tp fr2 lg2 (st2 - 1) d) fun s sl => if sl = -1 then kRf s (-6) else kU (kAccess N s me 1 (nI f) 0 0 1) fun s =>
        kRt (xu (pPut s.1 fr2 lg2 (st2 - 1) d (iN sl) f) 6 f 2 (pPut s.1 fr2 lg2 (st2 - 1) d (iN sl) f 6 f 2 + 1), s.2.1, s.2.2) 0)
theorem dX1_doLink_0 : decode cX1_doLink 0 = .ok (.aload_n 0, 1) := by decide +kernel
theorem dX1_doLink_1 : decode cX1_doLink 1 = .ok (.getfield 76, 3) := by decide +kernel
theorem dX1_doLink_4 : decode cX1_doLink 4 = .ok (.invokevirtual 573, 3) := by decide +kernel
theorem dX1_doLink_7 : decode cX1_doLink 7 = .ok (.astore_n 1, 1) := by decide +kernel
theorem dX1_doLink_8 : decode cX1_doLink 8 = .ok (.aload_n 1, 1) := by decide +kernel
theorem dX1_doLink_9 : decode cX1_doLink 9 = .ok (.invokevirtual 403, 3) := by decide +kernel
theorem dX1_doLink_12 : decode cX1_doLink 12 = .ok (.ifCond .eq 13, 3) := by decide +kernel
theorem dX1_doLink_15 : decode cX1_doLink 15 = .ok (.aload_n 0, 1) := by decide +kernel
theorem dX1_doLink_16 : decode cX1_doLink 16 = .ok (.getfield 53, 3) := by decide +kernel
theorem dX1_doLink_19 : decode cX1_doLink 19 = .ok (.bipush (-4), 2) := by decide +kernel
theorem dX1_doLink_21 : decode cX1_doLink 21 = .ok (.invokevirtual 364, 3) := by decide +kernel
theorem dX1_doLink_24 : decode cX1_doLink 24 = .ok (.athrow, 1) := by decide +kernel
theorem dX1_doLink_25 : decode cX1_doLink 25 = .ok (.aload_n 0, 1) := by decide +kernel
theorem dX1_doLink_26 : decode cX1_doLink 26 = .ok (.getfield 80, 3) := by decide +kernel
theorem dX1_doLink_29 : decode cX1_doLink 29 = .ok (.invokevirtual 616, 3) := by decide +kernel
theorem dX1_doLink_32 : decode cX1_doLink 32 = .ok (.astore_n 2, 1) := by decide +kernel
theorem dX1_doLink_33 : decode cX1_doLink 33 = .ok (.aload_n 0, 1) := by decide +kernel
theorem dX1_doLink_34 : decode cX1_doLink 34 = .ok (.getfield 80, 3) := by decide +kernel
theorem dX1_doLink_37 : decode cX1_doLink 37 = .ok (.aload_n 2, 1) := by decide +kernel
theorem dX1_doLink_38 : decode cX1_doLink 38 = .ok (.invokevirtual 619, 3) := by decide +kernel
theorem dX1_doLink_41 : decode cX1_doLink 41 = .ok (.ifnull 13, 3) := by decide +kernel
theorem dX1_doLink_44 : decode cX1_doLink 44 = .ok (.aload_n 0, 1) := by decide +kernel
theorem dX1_doLink_45 : decode cX1_doLink 45 = .ok (.getfield 53, 3) := by decide +kernel
theorem dX1_doLink_48 : decode cX1_doLink 48 = .ok (.bipush (-3), 2) := by decide +kernel
theorem dX1_doLink_50 : decode cX1_doLink 50 = .ok (.invokevirtual 364, 3) := by decide +kernel
theorem dX1_doLink_53 : decode cX1_doLink 53 = .ok (.athrow, 1) := by decide +kernel
theorem dX1_doLink_54 : decode cX1_doLink 54 = .ok (.aload_n 2, 1) := by decide +kernel
theorem dX1_doLink_55 : decode cX1_doLink 55 = .ok (.aload_n 0, 1) := by decide +kernel
theorem dX1_doLink_56 : decode cX1_doLink 56 = .ok (.getfield 291, 3) := by decide +kernel
theorem dX1_doLink_59 : decode cX1_doLink 59 = .ok (.invokevirtual 677, 3) := by decide +kernel
theorem dX1_doLink_62 : decode cX1_doLink 62 = .ok (.ifCond .ne 13, 3) := by decide +kernel
theorem dX1_doLink_65 : decode cX1_doLink 65 = .ok (.aload_n 0, 1) := by decide +kernel
theorem dX1_doLink_66 : decode cX1_doLink 66 = .ok (.getfield 53, 3) := by decide +kernel
theorem dX1_doLink_69 : decode cX1_doLink 69 = .ok (.bipush (-2), 2) := by decide +kernel
theorem dX1_doLink_71 : decode cX1_doLink 71 = .ok (.invokevirtual 364, 3) := by decide +kernel
theorem dX1_doLink_74 : decode cX1_doLink 74 = .ok (.athrow, 1) := by decide +kernel
theorem dX1_doLink_75 : decode cX1_doLink 75 = .ok (.aload_n 0, 1) := by decide +kernel
theorem dX1_doLink_76 : decode cX1_doLink 76 = .ok (.iconst 1, 1) := by decide +kernel
theorem dX1_doLink_77 : decode cX1_doLink 77 = .ok (.aload_n 1, 1) := by decide +kernel
theorem dX1_doLink_78 : decode cX1_doLink 78 = .ok (.getfield 448, 3) := by decide +kernel
theorem dX1_doLink_81 : decode cX1_doLink 81 = .ok (.invokevirtual 650, 3) := by decide +kernel
theorem dX1_doLink_84 : decode cX1_doLink 84 = .ok (.aload_n 1, 1) := by decide +kernel
theorem dX1_doLink_85 : decode cX1_doLink 85 = .ok (.getfield 185, 3) := by decide +kernel
theorem dX1_doLink_88 : decode cX1_doLink 88 = .ok (.sipush 200, 3) := by decide +kernel
theorem dX1_doLink_91 : decode cX1_doLink 91 = .ok (.if_icmp .ne 13, 3) := by decide +kernel
theorem dX1_doLink_94 : decode cX1_doLink 94 = .ok (.aload_n 0, 1) := by decide +kernel
theorem dX1_doLink_95 : decode cX1_doLink 95 = .ok (.getfield 53, 3) := by decide +kernel
theorem dX1_doLink_98 : decode cX1_doLink 98 = .ok (.bipush (-11), 2) := by decide +kernel
theorem dX1_doLink_100 : decode cX1_doLink 100 = .ok (.invokevirtual 364, 3) := by decide +kernel
theorem dX1_doLink_103 : decode cX1_doLink 103 = .ok (.athrow, 1) := by decide +kernel
theorem dX1_doLink_104 : decode cX1_doLink 104 = .ok (.aload_n 0, 1) := by decide +kernel
theorem dX1_doLink_105 : decode cX1_doLink 105 = .ok (.getfield 80, 3) := by decide +kernel
theorem dX1_doLink_108 : decode cX1_doLink 108 = .ok (.aload_n 2, 1) := by decide +kernel
theorem dX1_doLink_109 : decode cX1_doLink 109 = .ok (.invokevirtual 680, 3) := by decide +kernel
theorem dX1_doLink_112 : decode cX1_doLink 112 = .ok (.istore_n 3, 1) := by decide +kernel
theorem dX1_doLink_113 : decode cX1_doLink 113 = .ok (.iload_n 3, 1) := by decide +kernel
theorem dX1_doLink_114 : decode cX1_doLink 114 = .ok (.iconst (-1), 1) := by decide +kernel
theorem dX1_doLink_115 : decode cX1_doLink 115 = .ok (.if_icmp .ne 13, 3) := by decide +kernel
theorem dX1_doLink_118 : decode cX1_doLink 118 = .ok (.aload_n 0, 1) := by decide +kernel
theorem dX1_doLink_119 : decode cX1_doLink 119 = .ok (.getfield 53, 3) := by decide +kernel
theorem dX1_doLink_122 : decode cX1_doLink 122 = .ok (.bipush (-6), 2) := by decide +kernel
theorem dX1_doLink_124 : decode cX1_doLink 124 = .ok (.invokevirtual 364, 3) := by decide +kernel
theorem dX1_doLink_127 : decode cX1_doLink 127 = .ok (.athrow, 1) := by decide +kernel
theorem dX1_doLink_128 : decode cX1_doLink 128 = .ok (.aload_n 0, 1) := by decide +kernel
theorem dX1_doLink_129 : decode cX1_doLink 129 = .ok (.iconst 1, 1) := by decide +kernel
theorem dX1_doLink_130 : decode cX1_doLink 130 = .ok (.aload_n 1, 1) := by decide +kernel
theorem dX1_doLink_131 : decode cX1_doLink 131 = .ok (.getfield 448, 3) := by decide +kernel
theorem dX1_doLink_134 : decode cX1_doLink 134 = .ok (.invokevirtual 588, 3) := by decide +kernel
theorem dX1_doLink_137 : decode cX1_doLink 137 = .ok (.aload_n 0, 1) := by decide +kernel
theorem dX1_doLink_138 : decode cX1_doLink 138 = .ok (.getfield 80, 3) := by decide +kernel
theorem dX1_doLink_141 : decode cX1_doLink 141 = .ok (.aload_n 2, 1) := by decide +kernel
theorem dX1_doLink_142 : decode cX1_doLink 142 = .ok (.iload_n 3, 1) := by decide +kernel
theorem dX1_doLink_143 : decode cX1_doLink 143 = .ok (.aload_n 1, 1) := by decide +kernel
theorem dX1_doLink_144 : decode cX1_doLink 144 = .ok (.invokevirtual 682, 3) := by decide +kernel
theorem dX1_doLink_147 : decode cX1_doLink 147 = .ok (.aload_n 1, 1) := by decide +kernel
theorem dX1_doLink_148 : decode cX1_doLink 148 = .ok (.dup, 1) := by decide +kernel
theorem dX1_doLink_149 : decode cX1_doLink 149 = .ok (.getfield 185, 3) := by decide +kernel
theorem dX1_doLink_152 : decode cX1_doLink 152 = .ok (.iconst 1, 1) := by decide +kernel
theorem dX1_doLink_153 : decode cX1_doLink 153 = .ok (.iadd, 1) := by decide +kernel
theorem dX1_doLink_154 : decode cX1_doLink 154 = .ok (.putfield 185, 3) := by decide +kernel
theorem dX1_doLink_157 : decode cX1_doLink 157 = .ok (.iconst 0, 1) := by decide +kernel
theorem dX1_doLink_158 : decode cX1_doLink 158 = .ok (.ireturn, 1) := by decide +kernel
set_option maxHeartbeats 4000000 in
set_option maxRecDepth 100000 in
theorem c_X1_doLink {G : xG} {n : Nat} {Q : Outcome → xS → Prop} {x : kX} {I : xI} {R : xR} {v : kV} {th : List xTh} {mm : Nat} (hT : KT x v th) (hK : KI (I, R, th) x.N mm) {st : Nat} {fr lg : Nat → Nat} (hp : PS I 0 st fr lg) {tp : Nat → Int32} (htp : I 27 0 = tp) {st2 : Nat} {fr2 lg2 : Nat → Nat} (hp2 : PS I 1 st2 fr2 lg2) (h1 : 1 ≤ st2) (hmm : mm + 100 < 16384) {me : Nat} (hme : R 0 0 19 = some me) (hme16 : me < 16) (hn : 14 ≤ n) (hq : kOs Q x (kDoLink x.N (I, R, th) me tp fr lg st fr2 lg2 st2)) : xCall G mX1_doLink n [.ref (x.ad 0 0)] (kS I R x v) Q := by
  refine x_met (L0 := [(1, .ref (x.ad 0 0)), xo, xo, xo]) (by decide +kernel) rfl ⟨Nat.le_of_ble_eq_true rfl, rfl⟩ ?_
  have hnb := hT.ks.nb
  unfold kDoLink at hq
  have hp12 := hp.2.1
  have hp22 := hp2.2.1
  refine x_aload_n 1 dX1_doLink_0 rfl rfl ?_
  refine x_getz 4 dX1_doLink_1 rfl fl_X1_76 (hT.ks.l0 (by omega)) (hT.ks.z0_23 (by omega)) ?_
  try unfold kFnd at hq
  obtain ⟨hw_1, hq⟩ := hq.asB
  have hwk_1 := kWk_some hw_1
  have hwN_1 := hK.rf.wk hwk_1
  obtain ⟨r_1, hd1⟩ : ∃ r : kO × Nat, r = kWalk x.N (I, R, th) me tp fr lg (kBeg ((I, R, th)).1 0 (kWk (I, R, th) me)) st := ⟨_, rfl⟩
  rw [← hd1] at hq
  have hKS_1 := KI.walk (me := me) (tp := tp) (fr := fr) (lg := lg) hK (d := (kBeg ((I, R, th)).1 0 (kWk (I, R, th) me))) (kBeg_lt hwN_1) (by omega) st
  rw [← hd1] at hKS_1
  obtain ⟨hKa_1, hSa_1, hdN_1⟩ := hKS_1
  have hK_1 := hKa_1.le (m' := mm + 12) (by omega)
  have hS_1 := (kSx.rfl (s := (I, R, th))).trans hSa_1
  refine x_callV (as := []) (rest := []) (i := 0) (n' := n - 1) 7 dX1_doLink_4 rfl mv_X1_573 rfl rfl (hT.ks.l4 (by omega)) (xnh rfl) (by omega) (xst (Nat.le_of_ble_eq_true rfl)) (c_X5_find (i := 0) (fr := fr) (lg := lg) hT hK (by omega) (hp.fx (kSx.rfl (s := (I, R, th))).1) (tp_fx htp (kSx.rfl (s := (I, R, th))).1) (by omega) ((kSx.rfl (s := (I, R, th))).2 0 0 19 rfl |>.trans hme) hme16 hwk_1 hwN_1 (by omega) (kOutP hd1 ⟨?_, ?_⟩))
  · skip
    intro hz1 w1 hU1
    change X _ _ _ _ _ _ _ _ _ _
    rw [kB_ok hz1] at hq
    refine x_astore_n 8 [(1, .ref (x.ad 0 0)), (1, .ref (x.ad 6 r_1.2)), xo, xo] dX1_doLink_7 rfl (by decide) rfl ?_
    refine x_aload_n 9 dX1_doLink_8 rfl rfl ?_
    refine x_callV (as := []) (rest := []) (i := r_1.2) (n' := n - 1) 12 dX1_doLink_9 rfl mv_X1_403 rfl rfl (hU1.ks.l6 (by omega)) (xnh rfl) (by omega) (xst (Nat.le_of_ble_eq_true rfl)) (c_X7_isDirectory hU1.ks (by omega) (by omega) ?_)
    change X _ _ _ _ _ _ _ _ _ _
    refine x_vi (w := b2i (iDir r_1.1.2.1 r_1.2)) rfl ?_
    refine x_if_eq 25 15 dX1_doLink_12 (by decide) rfl (fun c12 => ?_) (fun c12 => ?_)
    · skip
      have c12 : ¬ (iDir r_1.1.2.1 r_1.2) := b2i_0.mp c12
      rw [cif_f c12] at hq
      refine x_aload_n 26 dX1_doLink_25 rfl rfl ?_
      refine x_getz 29 dX1_doLink_26 rfl fl_X1_80 (hU1.ks.l0 (by omega)) (hU1.ks.z0_24 (by omega)) ?_
      try unfold kLst at hq
      obtain ⟨hw_2, hq⟩ := hq.asB
      have hwk_2 := kWk_some hw_2
      have hwN_2 := hK_1.rf.wk hwk_2
      obtain ⟨r_2, hd2⟩ : ∃ r : kO × Nat, r = kLast x.N r_1.1.2 me tp fr2 lg2 (kBeg r_1.1.2.1 1 (kWk r_1.1.2 me)) st2 := ⟨_, rfl⟩
      rw [← hd2] at hq
      have hKS_2 := KI.last (me := me) (tp := tp) (fr := fr2) (lg := lg2) hK_1 (d := (kBeg r_1.1.2.1 1 (kWk r_1.1.2 me))) (kBeg_lt hwN_2) (by omega) (st := st2) (by omega)
      rw [← hd2] at hKS_2
      obtain ⟨hKa_2, hSa_2, hdN_2⟩ := hKS_2
      have hK_2 := hKa_2.le (m' := (mm + 12) + 12) (by omega)
      have hS_2 := (hS_1).trans hSa_2
      refine x_callV (as := []) (rest := []) (i := 1) (n' := n - 1) 32 dX1_doLink_29 rfl mv_X1_616 rfl rfl (hU1.ks.l4 (by omega)) (xnh rfl) (by omega) (xst (Nat.le_of_ble_eq_true rfl)) (c_X5_last (i := 1) (fr := fr2) (lg := lg2) hU1 hK_1 (by omega) (hp2.fx (hS_1).1) (tp_fx htp (hS_1).1) (by omega) ((hS_1).2 0 0 19 rfl |>.trans hme) hme16 hwk_2 hwN_2 (by omega) (by omega) (kOutP hd2 ⟨?_, ?_⟩))
      · skip
        intro hz2 w2 hU2
        change X _ _ _ _ _ _ _ _ _ _
        rw [kB_ok hz2] at hq
        refine x_astore_n 33 [(1, .ref (x.ad 0 0)), (1, .ref (x.ad 6 r_1.2)), (1, .ref (x.ad 6 r_2.2)), xo] dX1_doLink_32 rfl (by decide) rfl ?_
        refine x_aload_n 34 dX1_doLink_33 rfl rfl ?_
        refine x_getz 37 dX1_doLink_34 rfl fl_X1_80 (hU2.ks.l0 (by omega)) (hU2.ks.z0_24 (by omega)) ?_
        refine x_aload_n 38 dX1_doLink_37 rfl rfl ?_
        refine x_callV (as := [.ref (x.ad 6 r_2.2)]) (rest := []) (i := 1) (n' := n - 1) 41 dX1_doLink_38 rfl mv_X1_619 rfl rfl (hU2.ks.l4 (by omega)) (xnh rfl) (by omega) (xst (Nat.le_of_ble_eq_true rfl)) (c_X5_lastEntry (I := kI r_2.1.2.1 w2.t) (i := 1) (fr := fr2) (lg := lg2) (d := r_2.2) hU2.ks (by omega) (show PS r_2.1.2.1 1 st2 fr2 lg2 from (hp2.fx (hS_2).1)) (by omega) (by omega) (fun d_ s_ _ _ => hK_2.wf.now d_ s_) (by omega) ?_)
        change X _ _ _ _ _ _ _ _ _ _
        refine x_vr (w := iEntry r_2.1.2.1 r_2.2 tp (fr2 (st2 - 1)) (lg2 (st2 - 1))) (by rw [← (tp_fx htp (hS_2).1)]; rfl) ?_
        refine x_ifnull 54 44 dX1_doLink_41 (by decide) rfl (fun c41 => ?_) (fun j1 c41 => ?_)
        · skip
          rw [c41] at hq
          dsimp only at hq
          refine x_aload_n 55 dX1_doLink_54 rfl rfl ?_
          refine x_aload_n 56 dX1_doLink_55 rfl rfl ?_
          refine x_geti 59 dX1_doLink_56 rfl fl_X1_291 (hU2.ks.l0 (by omega)) ?_
          refine x_vi (w := r_2.1.2.1 0 0 21) rfl ?_
          refine x_callV (as := [.int (r_2.1.2.1 0 0 21)]) (rest := []) (i := r_2.2) (n' := n - 1) 62 dX1_doLink_59 rfl mv_X1_677 rfl rfl (hU2.ks.l6 (by omega)) (xnh rfl) (by omega) (xst (Nat.le_of_ble_eq_true rfl)) (c_X7_namesFor hU2.ks (by omega) (by omega) ?_)
          change X _ _ _ _ _ _ _ _ _ _
          refine x_vi (w := iNamesFor r_2.1.2.1 r_2.2 (r_2.1.2.1 0 0 21)) rfl ?_
          refine x_if_ne 75 65 dX1_doLink_62 (by decide) rfl (fun c62 => ?_) (fun c62 => ?_)
          · skip
            rw [if_neg c62] at hq
            refine x_aload_n 76 dX1_doLink_75 rfl rfl ?_
            refine x_iconst (v := 1) 77 dX1_doLink_76 rfl rfl ?_
            refine x_aload_n 78 dX1_doLink_77 rfl rfl ?_
            refine x_geti 81 dX1_doLink_78 rfl fl_X1_448 (hU2.ks.l6 (by omega)) ?_
            refine x_vi (w := r_2.1.2.1 6 r_1.2 0) rfl ?_
            refine x_vi (w := nI r_1.2) (hK_2.nm.1 r_1.2 (by omega)) ?_
            obtain ⟨r_3, hd3⟩ : ∃ r : kO, r = kAccess x.N r_2.1.2 me 1 (nI r_1.2) 0 0 0 := ⟨_, rfl⟩
            rw [← hd3] at hq
            have hK_3 : KI r_3.2 x.N ((mm + 24) + 1) := by rw [hd3]; exact hK_2.access (hoaN (g := 1) (by omega) (kOf1 (by omega)))
            have hS_3 : kSx (I, R, th) r_3.2 := (hS_2).trans (by rw [hd3]; exact sx_access)
            refine x_callV (as := [.int 1, .int (nI r_1.2)]) (rest := []) (i := 0) (n' := n - 1) 84 dX1_doLink_81 rfl mv_X1_650 rfl rfl (hU2.ks.l0 (by omega)) (xnh rfl) (by omega) (xst (Nat.le_of_ble_eq_true rfl)) (c_X1_reads (g := 1) (oa := nI r_1.2) hU2 hK_2 (hoaN (g := 1) (by omega) (kOf1 (by omega))) (by omega) ((hS_2).2 0 0 19 rfl |>.trans hme) hme16 (by omega) (kOutN hd3 ⟨?_, ?_⟩))
            · skip
              intro hz3 w3 hU3
              change X _ _ _ _ _ _ _ _ _ _
              rw [kU_ok hz3] at hq
              refine x_aload_n 85 dX1_doLink_84 rfl rfl ?_
              refine x_geti 88 dX1_doLink_85 rfl fl_X1_185 (hU3.ks.l6 (by omega)) ?_
              refine x_vi (w := r_3.2.1 6 r_1.2 2) rfl ?_
              refine x_sipush (v := 200) 91 dX1_doLink_88 rfl rfl ?_
              refine x_icmp_ne 104 94 dX1_doLink_91 (by decide) rfl (fun c91 => ?_) (fun c91 => ?_)
              · skip
                rw [if_neg c91] at hq
                refine x_aload_n 105 dX1_doLink_104 rfl rfl ?_
                refine x_getz 108 dX1_doLink_105 rfl fl_X1_80 (hU3.ks.l0 (by omega)) (hU3.ks.z0_24 (by omega)) ?_
                refine x_aload_n 109 dX1_doLink_108 rfl rfl ?_
                obtain ⟨r_4, hd4⟩ : ∃ r : kO × Int32, r = kTake x.N r_3.2 me tp fr2 lg2 (st2 - 1) r_2.2 := ⟨_, rfl⟩
                rw [← hd4] at hq
                have hKS_4 := KI.take (me := me) (tp := tp) (fr := fr2) (lg := lg2) (k := st2 - 1) (d := r_2.2) hK_3 (by omega)
                rw [← hd4] at hKS_4
                obtain ⟨hK_4, hSa_4⟩ := hKS_4
                have hS_4 := (hS_3).trans hSa_4
                refine x_callV (as := [.ref (x.ad 6 r_2.2)]) (rest := []) (i := 1) (n' := n - 1) 112 dX1_doLink_109 rfl mv_X1_680 rfl rfl (hU3.ks.l4 (by omega)) (xnh rfl) (by omega) (xst (Nat.le_of_ble_eq_true rfl)) (c_X5_take (i := 1) (fr := fr2) (lg := lg2) (d := r_2.2) hU3 hK_3 (by omega) (hp2.fx (hS_3).1) (tp_fx htp (hS_3).1) (by omega) (by omega) (by omega) ((hS_3).2 0 0 19 rfl |>.trans hme) hme16 (by omega) (kOutI hd4 ⟨?_, ?_⟩))
                · skip
                  intro hz4 w4 hU4
                  change X _ _ _ _ _ _ _ _ _ _
                  rw [kBI_ok hz4] at hq
                  refine x_nmi fun x1 hx1 => ?_
                  refine x_istore_n 113 [(1, .ref (x.ad 0 0)), (1, .ref (x.ad 6 r_1.2)), (1, .ref (x.ad 6 r_2.2)), (1, .int x1)] dX1_doLink_112 rfl (by decide) rfl ?_
                  refine x_iload_n 114 dX1_doLink_113 rfl rfl ?_
                  refine x_iconst (v := -1) 115 dX1_doLink_114 rfl rfl ?_
                  refine x_icmp_ne 128 118 dX1_doLink_115 (by decide) rfl (fun c115 => ?_) (fun c115 => ?_)
                  · skip
                    rw [if_neg (by rw [← hx1]; exact c115)] at hq
                    obtain ⟨s_, hs1, hs2⟩ := kTake_s (by rw [← hd4]; exact hz4) (by rw [← hd4, ← hx1]; exact c115)
                    rw [← hd4, ← hx1] at hs2
                    rw [← hx1, hs2, iN_nI (by omega)] at hq
                    subst hs2
                    refine x_aload_n 129 dX1_doLink_128 rfl rfl ?_
                    refine x_iconst (v := 1) 130 dX1_doLink_129 rfl rfl ?_
                    refine x_aload_n 131 dX1_doLink_130 rfl rfl ?_
                    refine x_geti 134 dX1_doLink_131 rfl fl_X1_448 (hU4.ks.l6 (by omega)) ?_
                    refine x_vi (w := r_4.1.2.1 6 r_1.2 0) rfl ?_
                    refine x_vi (w := nI r_1.2) (hK_4.nm.1 r_1.2 (by omega)) ?_
                    obtain ⟨r_5, hd5⟩ : ∃ r : kO, r = kAccess x.N r_4.1.2 me 1 (nI r_1.2) 0 0 1 := ⟨_, rfl⟩
                    rw [← hd5] at hq
                    have hK_5 : KI r_5.2 x.N ((mm + 26) + 1) := by rw [hd5]; exact hK_4.access (hoaN (g := 1) (by omega) (kOf1 (by omega)))
                    have hS_5 : kSx (I, R, th) r_5.2 := (hS_4).trans (by rw [hd5]; exact sx_access)
                    refine x_callV (as := [.int 1, .int (nI r_1.2)]) (rest := []) (i := 0) (n' := n - 1) 137 dX1_doLink_134 rfl mv_X1_588 rfl rfl (hU4.ks.l0 (by omega)) (xnh rfl) (by omega) (xst (Nat.le_of_ble_eq_true rfl)) (c_X1_writes (g := 1) (oa := nI r_1.2) hU4 hK_4 (hoaN (g := 1) (by omega) (kOf1 (by omega))) (by omega) ((hS_4).2 0 0 19 rfl |>.trans hme) hme16 (by omega) (kOutN hd5 ⟨?_, ?_⟩))
                    · skip
                      intro hz5 w5 hU5
                      change X _ _ _ _ _ _ _ _ _ _
                      rw [kU_ok hz5] at hq
                      refine x_aload_n 138 dX1_doLink_137 rfl rfl ?_
                      refine x_getz 141 dX1_doLink_138 rfl fl_X1_80 (hU5.ks.l0 (by omega)) (hU5.ks.z0_24 (by omega)) ?_
                      refine x_aload_n 142 dX1_doLink_141 rfl rfl ?_
                      refine x_iload_n 143 dX1_doLink_142 rfl rfl ?_
                      refine x_aload_n 144 dX1_doLink_143 rfl rfl ?_
                      refine x_callV (as := [.ref (x.ad 6 r_2.2), .int (nI s_), .ref (x.ad 6 r_1.2)]) (rest := []) (i := 1) (n' := n - 1) 147 dX1_doLink_144 rfl mv_X1_682 rfl rfl (hU5.ks.l4 (by omega)) (xnh rfl) (by omega) (xst (Nat.le_of_ble_eq_true rfl)) (c_X5_put (I := kI r_5.2.1 w5.t) (i := 1) (fr := fr2) (lg := lg2) (d := r_2.2) (f := r_1.2) hU5.ks (by omega) (show PS r_5.2.1 1 st2 fr2 lg2 from (hp2.fx (hS_5).1)) (by omega) (by omega) (by omega) (by omega) (hK_5.nm.1 r_1.2 (by omega)) (by omega) ?_)
                      change X _ _ _ _ _ _ _ _ _ _
                      refine k_nmA (v := w5) (A1 := (pPut r_5.2.1 fr2 lg2 (st2 - 1) r_2.2 s_ r_1.2)) kI_pPut fun I1 hI1 => ?_
                      refine x_aload_n 148 dX1_doLink_147 rfl rfl ?_
                      refine x_dup 149 dX1_doLink_148 rfl rfl ?_
                      refine x_geti 152 dX1_doLink_149 rfl fl_X1_185 (hU5.ks.l6 (by omega)) ?_
                      refine x_vi (w := I1 6 r_1.2 2) rfl ?_
                      refine x_iconst (v := 1) 153 dX1_doLink_152 rfl rfl ?_
                      refine x_iadd 154 dX1_doLink_153 rfl ?_
                      refine x_puti 157 dX1_doLink_154 rfl fl_X1_185 rfl rfl (hU5.ks.l6 (by omega)) ?_
                      refine k_nmA (v := w5) (kI_xu (c := 6) rfl) fun I2 hI2 => ?_
                      refine x_iconst (v := 0) 158 dX1_doLink_157 rfl rfl ?_
                      refine x_ireturn dX1_doLink_158 rfl ?_
                      rw [hI2, hI1]
                      exact hq.ret hU5
                    · skip
                      intro hz5 w5 hU5
                      rw [kU_no hz5] at hq
                      exact hq.no hz5 hU5
                  · skip
                    rw [if_pos (by rw [← hx1]; exact c115)] at hq
                    refine x_aload_n 119 dX1_doLink_118 rfl rfl ?_
                    refine x_getz 122 dX1_doLink_119 rfl fl_X1_53 (hU4.ks.l0 (by omega)) (hU4.ks.z0_10 (by omega)) ?_
                    refine x_bipush (v := -6) 124 dX1_doLink_122 rfl rfl ?_
                    refine x_callV (as := [.int (-6)]) (rest := []) (i := 0) (n' := n - 1) 127 dX1_doLink_124 rfl mv_X1_364 rfl rfl (hU4.ks.l3 (by omega)) (xnh rfl) (by omega) (xst (Nat.le_of_ble_eq_true rfl)) (c_X4_by hU4.ks (by omega) ?_)
                    change X _ _ _ _ _ _ _ _ _ _
                    refine k_nmA (v := w4) (A1 := (xu r_4.1.2.1 3 0 0 ((-6)))) (by (repeat (first | rw [kI_xu] | rw [kI_xur] | rw [kI_xfil])) <;> rfl) fun I1 hI1 => ?_
                    refine x_athrow dX1_doLink_127 (xnh rfl) ?_
                    rw [hI1]
                    exact hq.thr (by decide) hU4
                · skip
                  intro hz4 w4 hU4
                  rw [kBI_no hz4] at hq
                  exact hq.no hz4 hU4
              · skip
                rw [if_pos c91] at hq
                refine x_aload_n 95 dX1_doLink_94 rfl rfl ?_
                refine x_getz 98 dX1_doLink_95 rfl fl_X1_53 (hU3.ks.l0 (by omega)) (hU3.ks.z0_10 (by omega)) ?_
                refine x_bipush (v := -11) 100 dX1_doLink_98 rfl rfl ?_
                refine x_callV (as := [.int (-11)]) (rest := []) (i := 0) (n' := n - 1) 103 dX1_doLink_100 rfl mv_X1_364 rfl rfl (hU3.ks.l3 (by omega)) (xnh rfl) (by omega) (xst (Nat.le_of_ble_eq_true rfl)) (c_X4_by hU3.ks (by omega) ?_)
                change X _ _ _ _ _ _ _ _ _ _
                refine k_nmA (v := w3) (A1 := (xu r_3.2.1 3 0 0 ((-11)))) (by (repeat (first | rw [kI_xu] | rw [kI_xur] | rw [kI_xfil])) <;> rfl) fun I1 hI1 => ?_
                refine x_athrow dX1_doLink_103 (xnh rfl) ?_
                rw [hI1]
                exact hq.thr (by decide) hU3
            · skip
              intro hz3 w3 hU3
              rw [kU_no hz3] at hq
              exact hq.no hz3 hU3
          · skip
            rw [if_pos c62] at hq
            refine x_aload_n 66 dX1_doLink_65 rfl rfl ?_
            refine x_getz 69 dX1_doLink_66 rfl fl_X1_53 (hU2.ks.l0 (by omega)) (hU2.ks.z0_10 (by omega)) ?_
            refine x_bipush (v := -2) 71 dX1_doLink_69 rfl rfl ?_
            refine x_callV (as := [.int (-2)]) (rest := []) (i := 0) (n' := n - 1) 74 dX1_doLink_71 rfl mv_X1_364 rfl rfl (hU2.ks.l3 (by omega)) (xnh rfl) (by omega) (xst (Nat.le_of_ble_eq_true rfl)) (c_X4_by hU2.ks (by omega) ?_)
            change X _ _ _ _ _ _ _ _ _ _
            refine k_nmA (v := w2) (A1 := (xu r_2.1.2.1 3 0 0 ((-2)))) (by (repeat (first | rw [kI_xu] | rw [kI_xur] | rw [kI_xfil])) <;> rfl) fun I1 hI1 => ?_
            refine x_athrow dX1_doLink_74 (xnh rfl) ?_
            rw [hI1]
            exact hq.thr (by decide) hU2
        · skip
          rw [c41] at hq
          dsimp only at hq
          refine x_aload_n 45 dX1_doLink_44 rfl rfl ?_
          refine x_getz 48 dX1_doLink_45 rfl fl_X1_53 (hU2.ks.l0 (by omega)) (hU2.ks.z0_10 (by omega)) ?_
          refine x_bipush (v := -3) 50 dX1_doLink_48 rfl rfl ?_
          refine x_callV (as := [.int (-3)]) (rest := []) (i := 0) (n' := n - 1) 53 dX1_doLink_50 rfl mv_X1_364 rfl rfl (hU2.ks.l3 (by omega)) (xnh rfl) (by omega) (xst (Nat.le_of_ble_eq_true rfl)) (c_X4_by hU2.ks (by omega) ?_)
          change X _ _ _ _ _ _ _ _ _ _
          refine k_nmA (v := w2) (A1 := (xu r_2.1.2.1 3 0 0 ((-3)))) (by (repeat (first | rw [kI_xu] | rw [kI_xur] | rw [kI_xfil])) <;> rfl) fun I1 hI1 => ?_
          refine x_athrow dX1_doLink_53 (xnh rfl) ?_
          rw [hI1]
          exact hq.thr (by decide) hU2
      · skip
        intro hz2 w2 hU2
        rw [kB_no hz2] at hq
        exact hq.no hz2 hU2
    · skip
      have c12 : iDir r_1.1.2.1 r_1.2 := b2i_n0.mp c12
      rw [cif_t c12] at hq
      refine x_aload_n 16 dX1_doLink_15 rfl rfl ?_
      refine x_getz 19 dX1_doLink_16 rfl fl_X1_53 (hU1.ks.l0 (by omega)) (hU1.ks.z0_10 (by omega)) ?_
      refine x_bipush (v := -4) 21 dX1_doLink_19 rfl rfl ?_
      refine x_callV (as := [.int (-4)]) (rest := []) (i := 0) (n' := n - 1) 24 dX1_doLink_21 rfl mv_X1_364 rfl rfl (hU1.ks.l3 (by omega)) (xnh rfl) (by omega) (xst (Nat.le_of_ble_eq_true rfl)) (c_X4_by hU1.ks (by omega) ?_)
      change X _ _ _ _ _ _ _ _ _ _
      refine k_nmA (v := w1) (A1 := (xu r_1.1.2.1 3 0 0 ((-4)))) (by (repeat (first | rw [kI_xu] | rw [kI_xur] | rw [kI_xfil])) <;> rfl) fun I1 hI1 => ?_
      refine x_athrow dX1_doLink_24 (xnh rfl) ?_
      rw [hI1]
      exact hq.thr (by decide) hU1
  · skip
    intro hz1 w1 hU1
    rw [kB_no hz1] at hq
    exact hq.no hz1 hU1
def kPk (s : kK) (o : Nat) : Prop := iN (s.1 7 o 1) < 8 ∧ s.1 7 o 1 = nI (iN (s.1 7 o 1))
noncomputable def kDoClose (N : Nat) (s : kK) (me d : Nat) : kQ := match s.2.1 46 me d with
  | none => kRf s (-2)
  | some o => cif (oPipe s.2.1 o) (kAs (kPk s o) s (kU (kAccess N s me 6 (s.1 7 o 1) 0 0 1) fun s => kRt (s.1, xu s.2.1 46 me d none, s.2.2) 0)) (kRt (s.1, xu s.2.1 46 me d none, s.2.2) 0)
theorem dX1_doClose_0 : decode cX1_doClose 0 = .ok (.aload_n 0, 1) := by decide +kernel
theorem dX1_doClose_1 : decode cX1_doClose 1 = .ok (.iload_n 1, 1) := by decide +kernel
theorem dX1_doClose_2 : decode cX1_doClose 2 = .ok (.invokevirtual 544, 3) := by decide +kernel
theorem dX1_doClose_5 : decode cX1_doClose 5 = .ok (.astore_n 2, 1) := by decide +kernel
theorem dX1_doClose_6 : decode cX1_doClose 6 = .ok (.aload_n 2, 1) := by decide +kernel
theorem dX1_doClose_7 : decode cX1_doClose 7 = .ok (.invokevirtual 237, 3) := by decide +kernel
theorem dX1_doClose_10 : decode cX1_doClose 10 = .ok (.ifCond .eq 13, 3) := by decide +kernel
theorem dX1_doClose_13 : decode cX1_doClose 13 = .ok (.aload_n 0, 1) := by decide +kernel
theorem dX1_doClose_14 : decode cX1_doClose 14 = .ok (.bipush 6, 2) := by decide +kernel
theorem dX1_doClose_16 : decode cX1_doClose 16 = .ok (.aload_n 2, 1) := by decide +kernel
theorem dX1_doClose_17 : decode cX1_doClose 17 = .ok (.getfield 240, 3) := by decide +kernel
theorem dX1_doClose_20 : decode cX1_doClose 20 = .ok (.invokevirtual 588, 3) := by decide +kernel
theorem dX1_doClose_23 : decode cX1_doClose 23 = .ok (.aload_n 0, 1) := by decide +kernel
theorem dX1_doClose_24 : decode cX1_doClose 24 = .ok (.getfield 371, 3) := by decide +kernel
theorem dX1_doClose_27 : decode cX1_doClose 27 = .ok (.getfield 246, 3) := by decide +kernel
theorem dX1_doClose_30 : decode cX1_doClose 30 = .ok (.iload_n 1, 1) := by decide +kernel
theorem dX1_doClose_31 : decode cX1_doClose 31 = .ok (.aconst_null, 1) := by decide +kernel
theorem dX1_doClose_32 : decode cX1_doClose 32 = .ok (.aastore, 1) := by decide +kernel
theorem dX1_doClose_33 : decode cX1_doClose 33 = .ok (.iconst 0, 1) := by decide +kernel
theorem dX1_doClose_34 : decode cX1_doClose 34 = .ok (.ireturn, 1) := by decide +kernel
set_option maxHeartbeats 4000000 in
set_option maxRecDepth 100000 in
theorem c_X1_doClose {G : xG} {n : Nat} {Q : Outcome → xS → Prop} {x : kX} {I : xI} {R : xR} {v : kV} {th : List xTh} {mm : Nat} (hT : KT x v th) (hK : KI (I, R, th) x.N mm) {d : Nat} (hd8 : d < 8) (hmm : mm + 100 < 16384) {me : Nat} (hme : R 0 0 19 = some me) (hme16 : me < 16) (hn : 14 ≤ n) (hq : kOs Q x (kDoClose x.N (I, R, th) me d)) : xCall G mX1_doClose n [.ref (x.ad 0 0), .int (nI d)] (kS I R x v) Q := by
  refine x_met (L0 := [(1, .ref (x.ad 0 0)), (1, .int (nI d)), xo]) (by decide +kernel) rfl ⟨Nat.le_of_ble_eq_true rfl, rfl⟩ ?_
  have hnb := hT.ks.nb
  unfold kDoClose at hq
  refine x_aload_n 1 dX1_doClose_0 rfl rfl ?_
  refine x_iload_n 2 dX1_doClose_1 rfl rfl ?_
  refine x_callV (as := [.int (nI d)]) (rest := []) (i := 0) (n' := n - 1) 5 dX1_doClose_2 rfl mv_X1_544 rfl rfl (hT.ks.l0 (by omega)) (xnh rfl) (by omega) (xst (Nat.le_of_ble_eq_true rfl)) (c_X1_has (I := kI I v.t) (R := kR R v.u) hT.ks ((kSx.rfl (s := (I, R, th))).2 0 0 19 rfl |>.trans hme) hme16 (by omega) (by omega) ?_ ?_)
  · skip
    intro o_ ho_
    have ho_ : R 46 me d = some o_ := ho_
    try dsimp only at hq
    rw [ho_] at hq
    try dsimp only at hq
    have ho3 := hK.rf.row ho_
    change X _ _ _ _ _ _ _ _ _ _
    refine x_astore_n 6 [(1, .ref (x.ad 0 0)), (1, .int (nI d)), (1, .ref (x.ad 7 o_))] dX1_doClose_5 rfl (by decide) rfl ?_
    refine x_aload_n 7 dX1_doClose_6 rfl rfl ?_
    refine x_callV (as := []) (rest := []) (i := o_) (n' := n - 1) 10 dX1_doClose_7 rfl mv_X1_237 rfl rfl (hT.ks.l7 (by omega)) (xnh rfl) (by omega) (xst (Nat.le_of_ble_eq_true rfl)) (c_X8_isPipe hT.ks (by omega) (by omega) ?_)
    change X _ _ _ _ _ _ _ _ _ _
    refine x_vi (w := b2i (oPipe R o_)) rfl ?_
    refine x_if_eq 23 13 dX1_doClose_10 (by decide) rfl (fun c10 => ?_) (fun c10 => ?_)
    · skip
      have c10 : ¬ (oPipe R o_) := b2i_0.mp c10
      rw [cif_f (show ¬ oPipe R o_ from c10)] at hq
      refine x_aload_n 24 dX1_doClose_23 rfl rfl ?_
      refine x_gets 27 dX1_doClose_24 rfl fl_X1_371 (hT.ks.l0 (by omega)) ((kSx.rfl (s := (I, R, th))).2 0 0 19 rfl |>.trans hme) ?_
      refine x_getz 30 dX1_doClose_27 rfl fl_X1_246 (hT.ks.l9 (by omega)) (hT.ks.z9_4 (by omega)) ?_
      refine x_iload_n 31 dX1_doClose_30 rfl rfl ?_
      refine x_null 32 dX1_doClose_31 rfl ?_
      refine x_asN (x.ad 7) ?_
      refine x_astr 33 dX1_doClose_32 rfl ar_46 (Or.inl ⟨by decide, _, _, _, rfl, rfl⟩) (by decide) (hT.ks.l46 (by omega)) (xb (hT.ks.n46 (by omega)) (by omega) (by omega)) (fun _ h => by cases h) ?_
      refine k_nmC (v := v) (kR_xu (c := 46) rfl) fun R1 hR1 => ?_
      refine x_iconst (v := 0) 34 dX1_doClose_33 rfl rfl ?_
      refine x_ireturn dX1_doClose_34 rfl ?_
      rw [hR1]
      exact hq.ret hT
    · skip
      have c10 : oPipe R o_ := b2i_n0.mp c10
      rw [cif_t (show oPipe R o_ from c10)] at hq
      obtain ⟨hpk_, hq⟩ := hq.as
      have hpk_ : iN (I 7 o_ 1) < 8 ∧ I 7 o_ 1 = nI (iN (I 7 o_ 1)) := hpk_
      refine x_aload_n 14 dX1_doClose_13 rfl rfl ?_
      refine x_bipush (v := 6) 16 dX1_doClose_14 rfl rfl ?_
      refine x_aload_n 17 dX1_doClose_16 rfl rfl ?_
      refine x_geti 20 dX1_doClose_17 rfl fl_X1_240 (hT.ks.l7 (by omega)) ?_
      refine x_vi (w := I 7 o_ 1) rfl ?_
      obtain ⟨r_1, hd1⟩ : ∃ r : kO, r = kAccess x.N (I, R, th) me 6 (I 7 o_ 1) 0 0 1 := ⟨_, rfl⟩
      rw [← hd1] at hq
      have hK_1 : KI r_1.2 x.N (mm + 1) := by rw [hd1]; exact hK.access ⟨hpk_.2, kOf6 hpk_.1⟩
      have hS_1 : kSx (I, R, th) r_1.2 := (kSx.rfl (s := (I, R, th))).trans (by rw [hd1]; exact sx_access)
      refine x_callV (as := [.int 6, .int (I 7 o_ 1)]) (rest := []) (i := 0) (n' := n - 1) 23 dX1_doClose_20 rfl mv_X1_588 rfl rfl (hT.ks.l0 (by omega)) (xnh rfl) (by omega) (xst (Nat.le_of_ble_eq_true rfl)) (c_X1_writes (g := 6) (oa := I 7 o_ 1) hT hK ⟨hpk_.2, kOf6 hpk_.1⟩ (by omega) ((kSx.rfl (s := (I, R, th))).2 0 0 19 rfl |>.trans hme) hme16 (by omega) (kOutN hd1 ⟨?_, ?_⟩))
      · skip
        intro hz1 w1 hU1
        change X _ _ _ _ _ _ _ _ _ _
        rw [kU_ok hz1] at hq
        refine x_aload_n 24 dX1_doClose_23 rfl rfl ?_
        refine x_gets 27 dX1_doClose_24 rfl fl_X1_371 (hU1.ks.l0 (by omega)) ((hS_1).2 0 0 19 rfl |>.trans hme) ?_
        refine x_getz 30 dX1_doClose_27 rfl fl_X1_246 (hU1.ks.l9 (by omega)) (hU1.ks.z9_4 (by omega)) ?_
        refine x_iload_n 31 dX1_doClose_30 rfl rfl ?_
        refine x_null 32 dX1_doClose_31 rfl ?_
        refine x_asN (x.ad 7) ?_
        refine x_astr 33 dX1_doClose_32 rfl ar_46 (Or.inl ⟨by decide, _, _, _, rfl, rfl⟩) (by decide) (hU1.ks.l46 (by omega)) (xb (hU1.ks.n46 (by omega)) (by omega) (by omega)) (fun _ h => by cases h) ?_
        refine k_nmC (v := w1) (kR_xu (c := 46) rfl) fun R1 hR1 => ?_
        refine x_iconst (v := 0) 34 dX1_doClose_33 rfl rfl ?_
        refine x_ireturn dX1_doClose_34 rfl ?_
        rw [hR1]
        exact hq.ret hU1
      · skip
        intro hz1 w1 hU1
        rw [kU_no hz1] at hq
        exact hq.no hz1 hU1
  · skip
    intro ho_
    have ho_ : R 46 me d = none := ho_
    try dsimp only at hq
    rw [ho_] at hq
    try dsimp only at hq
    rw [kI_xu (c := 3) rfl]
    exact hq.thr (by decide) hT
noncomputable def kDoSeek (N : Nat) (s : kK) (me d : Nat) (pl : Int32) : kQ := match s.2.1 46 me d with
  | none => kRf s (-2)
  | some o => cif (oPipe s.2.1 o) (kRf s (-4)) (kU (kAccess N s me 5 (nI o) 0 0 1) fun s => kRt (xu s.1 7 o 6 pl, s.2.1, s.2.2) (s.1 7 o 6))
theorem dX1_doSeek_0 : decode cX1_doSeek 0 = .ok (.aload_n 0, 1) := by decide +kernel
theorem dX1_doSeek_1 : decode cX1_doSeek 1 = .ok (.iload_n 1, 1) := by decide +kernel
theorem dX1_doSeek_2 : decode cX1_doSeek 2 = .ok (.invokevirtual 544, 3) := by decide +kernel
theorem dX1_doSeek_5 : decode cX1_doSeek 5 = .ok (.astore_n 3, 1) := by decide +kernel
theorem dX1_doSeek_6 : decode cX1_doSeek 6 = .ok (.aload_n 3, 1) := by decide +kernel
theorem dX1_doSeek_7 : decode cX1_doSeek 7 = .ok (.invokevirtual 237, 3) := by decide +kernel
theorem dX1_doSeek_10 : decode cX1_doSeek 10 = .ok (.ifCond .eq 13, 3) := by decide +kernel
theorem dX1_doSeek_13 : decode cX1_doSeek 13 = .ok (.aload_n 0, 1) := by decide +kernel
theorem dX1_doSeek_14 : decode cX1_doSeek 14 = .ok (.getfield 53, 3) := by decide +kernel
theorem dX1_doSeek_17 : decode cX1_doSeek 17 = .ok (.bipush (-4), 2) := by decide +kernel
theorem dX1_doSeek_19 : decode cX1_doSeek 19 = .ok (.invokevirtual 364, 3) := by decide +kernel
theorem dX1_doSeek_22 : decode cX1_doSeek 22 = .ok (.athrow, 1) := by decide +kernel
theorem dX1_doSeek_23 : decode cX1_doSeek 23 = .ok (.aload_n 0, 1) := by decide +kernel
theorem dX1_doSeek_24 : decode cX1_doSeek 24 = .ok (.iconst 5, 1) := by decide +kernel
theorem dX1_doSeek_25 : decode cX1_doSeek 25 = .ok (.aload_n 0, 1) := by decide +kernel
theorem dX1_doSeek_26 : decode cX1_doSeek 26 = .ok (.aload_n 3, 1) := by decide +kernel
theorem dX1_doSeek_27 : decode cX1_doSeek 27 = .ok (.invokevirtual 646, 3) := by decide +kernel
theorem dX1_doSeek_30 : decode cX1_doSeek 30 = .ok (.invokevirtual 588, 3) := by decide +kernel
theorem dX1_doSeek_33 : decode cX1_doSeek 33 = .ok (.aload_n 3, 1) := by decide +kernel
theorem dX1_doSeek_34 : decode cX1_doSeek 34 = .ok (.getfield 310, 3) := by decide +kernel
theorem dX1_doSeek_37 : decode cX1_doSeek 37 = .ok (.istore 4, 2) := by decide +kernel
theorem dX1_doSeek_39 : decode cX1_doSeek 39 = .ok (.aload_n 3, 1) := by decide +kernel
theorem dX1_doSeek_40 : decode cX1_doSeek 40 = .ok (.iload_n 2, 1) := by decide +kernel
theorem dX1_doSeek_41 : decode cX1_doSeek 41 = .ok (.putfield 310, 3) := by decide +kernel
theorem dX1_doSeek_44 : decode cX1_doSeek 44 = .ok (.iload 4, 2) := by decide +kernel
theorem dX1_doSeek_46 : decode cX1_doSeek 46 = .ok (.ireturn, 1) := by decide +kernel
set_option maxHeartbeats 4000000 in
set_option maxRecDepth 100000 in
theorem c_X1_doSeek {G : xG} {n : Nat} {Q : Outcome → xS → Prop} {x : kX} {I : xI} {R : xR} {v : kV} {th : List xTh} {mm : Nat} (hT : KT x v th) (hK : KI (I, R, th) x.N mm) {d : Nat} (hd8 : d < 8) {pl : Int32} (hmm : mm + 100 < 16384) {me : Nat} (hme : R 0 0 19 = some me) (hme16 : me < 16) (hn : 14 ≤ n) (hq : kOs Q x (kDoSeek x.N (I, R, th) me d pl)) : xCall G mX1_doSeek n [.ref (x.ad 0 0), .int (nI d), .int pl] (kS I R x v) Q := by
  refine x_met (L0 := [(1, .ref (x.ad 0 0)), (1, .int (nI d)), (1, .int pl), xo, xo]) (by decide +kernel) rfl ⟨Nat.le_of_ble_eq_true rfl, rfl⟩ ?_
  have hnb := hT.ks.nb
  unfold kDoSeek at hq
  refine x_aload_n 1 dX1_doSeek_0 rfl rfl ?_
  refine x_iload_n 2 dX1_doSeek_1 rfl rfl ?_
  refine x_callV (as := [.int (nI d)]) (rest := []) (i := 0) (n' := n - 1) 5 dX1_doSeek_2 rfl mv_X1_544 rfl rfl (hT.ks.l0 (by omega)) (xnh rfl) (by omega) (xst (Nat.le_of_ble_eq_true rfl)) (c_X1_has (I := kI I v.t) (R := kR R v.u) hT.ks ((kSx.rfl (s := (I, R, th))).2 0 0 19 rfl |>.trans hme) hme16 (by omega) (by omega) ?_ ?_)
  · skip
    intro o_ ho_
    have ho_ : R 46 me d = some o_ := ho_
    try dsimp only at hq
    rw [ho_] at hq
    try dsimp only at hq
    have ho3 := hK.rf.row ho_
    change X _ _ _ _ _ _ _ _ _ _
    refine x_astore_n 6 [(1, .ref (x.ad 0 0)), (1, .int (nI d)), (1, .int pl), (1, .ref (x.ad 7 o_)), xo] dX1_doSeek_5 rfl (by decide) rfl ?_
    refine x_aload_n 7 dX1_doSeek_6 rfl rfl ?_
    refine x_callV (as := []) (rest := []) (i := o_) (n' := n - 1) 10 dX1_doSeek_7 rfl mv_X1_237 rfl rfl (hT.ks.l7 (by omega)) (xnh rfl) (by omega) (xst (Nat.le_of_ble_eq_true rfl)) (c_X8_isPipe hT.ks (by omega) (by omega) ?_)
    change X _ _ _ _ _ _ _ _ _ _
    refine x_vi (w := b2i (oPipe R o_)) rfl ?_
    refine x_if_eq 23 13 dX1_doSeek_10 (by decide) rfl (fun c10 => ?_) (fun c10 => ?_)
    · skip
      have c10 : ¬ (oPipe R o_) := b2i_0.mp c10
      rw [cif_f (show ¬ oPipe R o_ from c10)] at hq
      refine x_aload_n 24 dX1_doSeek_23 rfl rfl ?_
      refine x_iconst (v := 5) 25 dX1_doSeek_24 rfl rfl ?_
      refine x_aload_n 26 dX1_doSeek_25 rfl rfl ?_
      refine x_aload_n 27 dX1_doSeek_26 rfl rfl ?_
      refine x_callV (as := [.ref (x.ad 7 o_)]) (rest := [.int 5, .ref (x.ad 0 0)]) (i := 0) (n' := n - 1) 30 dX1_doSeek_27 rfl mv_X1_646 rfl rfl (hT.ks.l0 (by omega)) (xnh rfl) (by omega) (xst (Nat.le_of_ble_eq_true rfl)) (c_X1_numberOf hT.ks (by omega) (by omega) ?_)
      change X _ _ _ _ _ _ _ _ _ _
      obtain ⟨r_1, hd1⟩ : ∃ r : kO, r = kAccess x.N (I, R, th) me 5 (nI o_) 0 0 1 := ⟨_, rfl⟩
      rw [← hd1] at hq
      have hK_1 : KI r_1.2 x.N (mm + 1) := by rw [hd1]; exact hK.access (hoaN (g := 5) (by omega) (kOf5 (by omega)))
      have hS_1 : kSx (I, R, th) r_1.2 := (kSx.rfl (s := (I, R, th))).trans (by rw [hd1]; exact sx_access)
      refine x_callV (as := [.int 5, .int (nI o_)]) (rest := []) (i := 0) (n' := n - 1) 33 dX1_doSeek_30 rfl mv_X1_588 rfl rfl (hT.ks.l0 (by omega)) (xnh rfl) (by omega) (xst (Nat.le_of_ble_eq_true rfl)) (c_X1_writes (g := 5) (oa := nI o_) hT hK (hoaN (g := 5) (by omega) (kOf5 (by omega))) (by omega) ((kSx.rfl (s := (I, R, th))).2 0 0 19 rfl |>.trans hme) hme16 (by omega) (kOutN hd1 ⟨?_, ?_⟩))
      · skip
        intro hz1 w1 hU1
        change X _ _ _ _ _ _ _ _ _ _
        rw [kU_ok hz1] at hq
        refine x_aload_n 34 dX1_doSeek_33 rfl rfl ?_
        refine x_geti 37 dX1_doSeek_34 rfl fl_X1_310 (hU1.ks.l7 (by omega)) ?_
        refine x_vi (w := r_1.2.1 7 o_ 6) rfl ?_
        refine x_nmi fun x1 hx1 => ?_
        refine x_istore 39 [(1, .ref (x.ad 0 0)), (1, .int (nI d)), (1, .int pl), (1, .ref (x.ad 7 o_)), (1, .int x1)] dX1_doSeek_37 rfl (by decide) rfl ?_
        refine x_aload_n 40 dX1_doSeek_39 rfl rfl ?_
        refine x_iload_n 41 dX1_doSeek_40 rfl rfl ?_
        refine x_puti 44 dX1_doSeek_41 rfl fl_X1_310 rfl rfl (hU1.ks.l7 (by omega)) ?_
        refine k_nmA (v := w1) (kI_xu (c := 7) rfl) fun I1 hI1 => ?_
        refine x_iload 46 dX1_doSeek_44 rfl rfl ?_
        refine x_ireturn dX1_doSeek_46 rfl ?_
        rw [hI1, hx1]
        exact hq.ret hU1
      · skip
        intro hz1 w1 hU1
        rw [kU_no hz1] at hq
        exact hq.no hz1 hU1
    · skip
      have c10 : oPipe R o_ := b2i_n0.mp c10
      rw [cif_t (show oPipe R o_ from c10)] at hq
      refine x_aload_n 14 dX1_doSeek_13 rfl rfl ?_
      refine x_getz 17 dX1_doSeek_14 rfl fl_X1_53 (hT.ks.l0 (by omega)) (hT.ks.z0_10 (by omega)) ?_
      refine x_bipush (v := -4) 19 dX1_doSeek_17 rfl rfl ?_
      refine x_callV (as := [.int (-4)]) (rest := []) (i := 0) (n' := n - 1) 22 dX1_doSeek_19 rfl mv_X1_364 rfl rfl (hT.ks.l3 (by omega)) (xnh rfl) (by omega) (xst (Nat.le_of_ble_eq_true rfl)) (c_X4_by hT.ks (by omega) ?_)
      change X _ _ _ _ _ _ _ _ _ _
      refine k_nmA (v := v) (A1 := (xu I 3 0 0 ((-4)))) (by (repeat (first | rw [kI_xu] | rw [kI_xur] | rw [kI_xfil])) <;> rfl) fun I1 hI1 => ?_
      refine x_athrow dX1_doSeek_22 (xnh rfl) ?_
      rw [hI1]
      exact hq.thr (by decide) hT
  · skip
    intro ho_
    have ho_ : R 46 me d = none := ho_
    try dsimp only at hq
    rw [ho_] at hq
    try dsimp only at hq
    rw [kI_xu (c := 3) rfl]
    exact hq.thr (by decide) hT
/-- the file of an opening -/
def kFl (s : kK) (o : Nat) : Nat := (s.2.1 7 o 0).getD 0
theorem kFl_s {s : kK} {o : Nat} (h : ¬ oPipe s.2.1 o) : s.2.1 7 o 0 = some (kFl s o) := by
  unfold kFl oPipe at *
  cases e : s.2.1 7 o 0 with
  | none => exact absurd e h
  | some f => rfl
noncomputable def kDoCut (N : Nat) (s : kK) (me d m : Nat) : kQ := match s.2.1 46 me d with
  | none => kRf s (-2)
  | some o => cif (oPipe s.2.1 o) (kRf s (-4)) (if s.1 7 o 4 = 0 then kRf s (-5) else kU (kAccess N s me 0 (nI (kFl s o)) 0 0 1) fun s' => kRt (kSetLen s'.1 (kFl s o) m, s'.2.1, s'.2.2) (s'.1 6 (kFl s o) 3))
theorem dX1_doCut_0 : decode cX1_doCut 0 = .ok (.aload_n 0, 1) := by decide +kernel
theorem dX1_doCut_1 : decode cX1_doCut 1 = .ok (.iload_n 1, 1) := by decide +kernel
theorem dX1_doCut_2 : decode cX1_doCut 2 = .ok (.invokevirtual 544, 3) := by decide +kernel
theorem dX1_doCut_5 : decode cX1_doCut 5 = .ok (.astore_n 3, 1) := by decide +kernel
theorem dX1_doCut_6 : decode cX1_doCut 6 = .ok (.aload_n 3, 1) := by decide +kernel
theorem dX1_doCut_7 : decode cX1_doCut 7 = .ok (.invokevirtual 237, 3) := by decide +kernel
theorem dX1_doCut_10 : decode cX1_doCut 10 = .ok (.ifCond .eq 13, 3) := by decide +kernel
theorem dX1_doCut_13 : decode cX1_doCut 13 = .ok (.aload_n 0, 1) := by decide +kernel
theorem dX1_doCut_14 : decode cX1_doCut 14 = .ok (.getfield 53, 3) := by decide +kernel
theorem dX1_doCut_17 : decode cX1_doCut 17 = .ok (.bipush (-4), 2) := by decide +kernel
theorem dX1_doCut_19 : decode cX1_doCut 19 = .ok (.invokevirtual 364, 3) := by decide +kernel
theorem dX1_doCut_22 : decode cX1_doCut 22 = .ok (.athrow, 1) := by decide +kernel
theorem dX1_doCut_23 : decode cX1_doCut 23 = .ok (.aload_n 3, 1) := by decide +kernel
theorem dX1_doCut_24 : decode cX1_doCut 24 = .ok (.getfield 611, 3) := by decide +kernel
theorem dX1_doCut_27 : decode cX1_doCut 27 = .ok (.ifCond .ne 13, 3) := by decide +kernel
theorem dX1_doCut_30 : decode cX1_doCut 30 = .ok (.aload_n 0, 1) := by decide +kernel
theorem dX1_doCut_31 : decode cX1_doCut 31 = .ok (.getfield 53, 3) := by decide +kernel
theorem dX1_doCut_34 : decode cX1_doCut 34 = .ok (.bipush (-5), 2) := by decide +kernel
theorem dX1_doCut_36 : decode cX1_doCut 36 = .ok (.invokevirtual 364, 3) := by decide +kernel
theorem dX1_doCut_39 : decode cX1_doCut 39 = .ok (.athrow, 1) := by decide +kernel
theorem dX1_doCut_40 : decode cX1_doCut 40 = .ok (.aload_n 0, 1) := by decide +kernel
theorem dX1_doCut_41 : decode cX1_doCut 41 = .ok (.iconst 0, 1) := by decide +kernel
theorem dX1_doCut_42 : decode cX1_doCut 42 = .ok (.aload_n 3, 1) := by decide +kernel
theorem dX1_doCut_43 : decode cX1_doCut 43 = .ok (.getfield 255, 3) := by decide +kernel
theorem dX1_doCut_46 : decode cX1_doCut 46 = .ok (.getfield 448, 3) := by decide +kernel
theorem dX1_doCut_49 : decode cX1_doCut 49 = .ok (.invokevirtual 588, 3) := by decide +kernel
theorem dX1_doCut_52 : decode cX1_doCut 52 = .ok (.aload_n 3, 1) := by decide +kernel
theorem dX1_doCut_53 : decode cX1_doCut 53 = .ok (.getfield 255, 3) := by decide +kernel
theorem dX1_doCut_56 : decode cX1_doCut 56 = .ok (.getfield 285, 3) := by decide +kernel
theorem dX1_doCut_59 : decode cX1_doCut 59 = .ok (.istore 4, 2) := by decide +kernel
theorem dX1_doCut_61 : decode cX1_doCut 61 = .ok (.aload_n 0, 1) := by decide +kernel
theorem dX1_doCut_62 : decode cX1_doCut 62 = .ok (.aload_n 3, 1) := by decide +kernel
theorem dX1_doCut_63 : decode cX1_doCut 63 = .ok (.getfield 255, 3) := by decide +kernel
theorem dX1_doCut_66 : decode cX1_doCut 66 = .ok (.iload_n 2, 1) := by decide +kernel
theorem dX1_doCut_67 : decode cX1_doCut 67 = .ok (.invokevirtual 627, 3) := by decide +kernel
theorem dX1_doCut_70 : decode cX1_doCut 70 = .ok (.iload 4, 2) := by decide +kernel
theorem dX1_doCut_72 : decode cX1_doCut 72 = .ok (.ireturn, 1) := by decide +kernel
set_option maxHeartbeats 4000000 in
set_option maxRecDepth 100000 in
theorem c_X1_doCut {G : xG} {n : Nat} {Q : Outcome → xS → Prop} {x : kX} {I : xI} {R : xR} {v : kV} {th : List xTh} {mm : Nat} (hT : KT x v th) (hK : KI (I, R, th) x.N mm) {d m : Nat} (hd8 : d < 8) (hm8 : m ≤ 8192) (hmm : mm + 100 < 16384) {me : Nat} (hme : R 0 0 19 = some me) (hme16 : me < 16) (hn : 14 ≤ n) (hq : kOs Q x (kDoCut x.N (I, R, th) me d m)) : xCall G mX1_doCut n [.ref (x.ad 0 0), .int (nI d), .int (nI m)] (kS I R x v) Q := by
  refine x_met (L0 := [(1, .ref (x.ad 0 0)), (1, .int (nI d)), (1, .int (nI m)), xo, xo]) (by decide +kernel) rfl ⟨Nat.le_of_ble_eq_true rfl, rfl⟩ ?_
  have hnb := hT.ks.nb
  unfold kDoCut at hq
  refine x_aload_n 1 dX1_doCut_0 rfl rfl ?_
  refine x_iload_n 2 dX1_doCut_1 rfl rfl ?_
  refine x_callV (as := [.int (nI d)]) (rest := []) (i := 0) (n' := n - 1) 5 dX1_doCut_2 rfl mv_X1_544 rfl rfl (hT.ks.l0 (by omega)) (xnh rfl) (by omega) (xst (Nat.le_of_ble_eq_true rfl)) (c_X1_has (I := kI I v.t) (R := kR R v.u) hT.ks ((kSx.rfl (s := (I, R, th))).2 0 0 19 rfl |>.trans hme) hme16 (by omega) (by omega) ?_ ?_)
  · skip
    intro o_ ho_
    have ho_ : R 46 me d = some o_ := ho_
    try dsimp only at hq
    rw [ho_] at hq
    try dsimp only at hq
    have ho3 := hK.rf.row ho_
    change X _ _ _ _ _ _ _ _ _ _
    refine x_astore_n 6 [(1, .ref (x.ad 0 0)), (1, .int (nI d)), (1, .int (nI m)), (1, .ref (x.ad 7 o_)), xo] dX1_doCut_5 rfl (by decide) rfl ?_
    refine x_aload_n 7 dX1_doCut_6 rfl rfl ?_
    refine x_callV (as := []) (rest := []) (i := o_) (n' := n - 1) 10 dX1_doCut_7 rfl mv_X1_237 rfl rfl (hT.ks.l7 (by omega)) (xnh rfl) (by omega) (xst (Nat.le_of_ble_eq_true rfl)) (c_X8_isPipe hT.ks (by omega) (by omega) ?_)
    change X _ _ _ _ _ _ _ _ _ _
    refine x_vi (w := b2i (oPipe R o_)) rfl ?_
    refine x_if_eq 23 13 dX1_doCut_10 (by decide) rfl (fun c10 => ?_) (fun c10 => ?_)
    · skip
      have c10 : ¬ (oPipe R o_) := b2i_0.mp c10
      rw [cif_f (show ¬ oPipe R o_ from c10)] at hq
      have hfl : R 7 o_ 0 = some (kFl (I, R, th) o_) := kFl_s (s := (I, R, th)) c10
      obtain ⟨f_, hf_⟩ : ∃ f_, f_ = kFl (I, R, th) o_ := ⟨_, rfl⟩
      rw [← hf_] at hfl
      rw [← hf_] at hq
      have hfN := hK.rf.of hfl
      refine x_aload_n 24 dX1_doCut_23 rfl rfl ?_
      refine x_geti 27 dX1_doCut_24 rfl fl_X1_611 (hT.ks.l7 (by omega)) ?_
      refine x_vi (w := I 7 o_ 4) rfl ?_
      refine x_if_ne 40 30 dX1_doCut_27 (by decide) rfl (fun c27 => ?_) (fun c27 => ?_)
      · skip
        rw [if_neg c27] at hq
        refine x_aload_n 41 dX1_doCut_40 rfl rfl ?_
        refine x_iconst (v := 0) 42 dX1_doCut_41 rfl rfl ?_
        refine x_aload_n 43 dX1_doCut_42 rfl rfl ?_
        refine x_gets 46 dX1_doCut_43 rfl fl_X1_255 (hT.ks.l7 (by omega)) ((kSx.rfl (s := (I, R, th))).2 7 o_ 0 rfl |>.trans hfl) ?_
        refine x_geti 49 dX1_doCut_46 rfl fl_X1_448 (hT.ks.l6 (by omega)) ?_
        refine x_vi (w := I 6 f_ 0) rfl ?_
        refine x_vi (w := nI f_) (hK.nm.1 f_ (by omega)) ?_
        obtain ⟨r_1, hd1⟩ : ∃ r : kO, r = kAccess x.N (I, R, th) me 0 (nI f_) 0 0 1 := ⟨_, rfl⟩
        rw [← hd1] at hq
        have hK_1 : KI r_1.2 x.N (mm + 1) := by rw [hd1]; exact hK.access (hoaN (g := 0) (by omega) (kOf0 (by omega)))
        have hS_1 : kSx (I, R, th) r_1.2 := (kSx.rfl (s := (I, R, th))).trans (by rw [hd1]; exact sx_access)
        refine x_callV (as := [.int 0, .int (nI f_)]) (rest := []) (i := 0) (n' := n - 1) 52 dX1_doCut_49 rfl mv_X1_588 rfl rfl (hT.ks.l0 (by omega)) (xnh rfl) (by omega) (xst (Nat.le_of_ble_eq_true rfl)) (c_X1_writes (g := 0) (oa := nI f_) hT hK (hoaN (g := 0) (by omega) (kOf0 (by omega))) (by omega) ((kSx.rfl (s := (I, R, th))).2 0 0 19 rfl |>.trans hme) hme16 (by omega) (kOutN hd1 ⟨?_, ?_⟩))
        · skip
          intro hz1 w1 hU1
          change X _ _ _ _ _ _ _ _ _ _
          rw [kU_ok hz1] at hq
          refine x_aload_n 53 dX1_doCut_52 rfl rfl ?_
          refine x_gets 56 dX1_doCut_53 rfl fl_X1_255 (hU1.ks.l7 (by omega)) ((hS_1).2 7 o_ 0 rfl |>.trans hfl) ?_
          refine x_geti 59 dX1_doCut_56 rfl fl_X1_285 (hU1.ks.l6 (by omega)) ?_
          refine x_vi (w := r_1.2.1 6 f_ 3) rfl ?_
          refine x_nmi fun x1 hx1 => ?_
          refine x_istore 61 [(1, .ref (x.ad 0 0)), (1, .int (nI d)), (1, .int (nI m)), (1, .ref (x.ad 7 o_)), (1, .int x1)] dX1_doCut_59 rfl (by decide) rfl ?_
          refine x_aload_n 62 dX1_doCut_61 rfl rfl ?_
          refine x_aload_n 63 dX1_doCut_62 rfl rfl ?_
          refine x_gets 66 dX1_doCut_63 rfl fl_X1_255 (hU1.ks.l7 (by omega)) ((hS_1).2 7 o_ 0 rfl |>.trans hfl) ?_
          refine x_iload_n 67 dX1_doCut_66 rfl rfl ?_
          refine x_callV (as := [.ref (x.ad 6 f_), .int (nI m)]) (rest := []) (i := 0) (n' := n - 1) 70 dX1_doCut_67 rfl mv_X1_627 rfl rfl (hU1.ks.l0 (by omega)) (xnh rfl) (by omega) (xst (Nat.le_of_ble_eq_true rfl)) (c_X1_setLength (I := kI r_1.2.1 w1.t) hU1.ks (by omega) (by omega) (hK_1.wf.len _) (by omega) ?_)
          change X _ _ _ _ _ _ _ _ _ _
          refine k_nmA (v := w1) (A1 := (kSetLen r_1.2.1 f_ m)) kI_kSetLen fun I1 hI1 => ?_
          refine x_iload 72 dX1_doCut_70 rfl rfl ?_
          refine x_ireturn dX1_doCut_72 rfl ?_
          rw [hI1, hx1]
          exact hq.ret hU1
        · skip
          intro hz1 w1 hU1
          rw [kU_no hz1] at hq
          exact hq.no hz1 hU1
      · skip
        rw [if_pos c27] at hq
        refine x_aload_n 31 dX1_doCut_30 rfl rfl ?_
        refine x_getz 34 dX1_doCut_31 rfl fl_X1_53 (hT.ks.l0 (by omega)) (hT.ks.z0_10 (by omega)) ?_
        refine x_bipush (v := -5) 36 dX1_doCut_34 rfl rfl ?_
        refine x_callV (as := [.int (-5)]) (rest := []) (i := 0) (n' := n - 1) 39 dX1_doCut_36 rfl mv_X1_364 rfl rfl (hT.ks.l3 (by omega)) (xnh rfl) (by omega) (xst (Nat.le_of_ble_eq_true rfl)) (c_X4_by hT.ks (by omega) ?_)
        change X _ _ _ _ _ _ _ _ _ _
        refine k_nmA (v := v) (A1 := (xu I 3 0 0 ((-5)))) (by (repeat (first | rw [kI_xu] | rw [kI_xur] | rw [kI_xfil])) <;> rfl) fun I1 hI1 => ?_
        refine x_athrow dX1_doCut_39 (xnh rfl) ?_
        rw [hI1]
        exact hq.thr (by decide) hT
    · skip
      have c10 : oPipe R o_ := b2i_n0.mp c10
      rw [cif_t (show oPipe R o_ from c10)] at hq
      refine x_aload_n 14 dX1_doCut_13 rfl rfl ?_
      refine x_getz 17 dX1_doCut_14 rfl fl_X1_53 (hT.ks.l0 (by omega)) (hT.ks.z0_10 (by omega)) ?_
      refine x_bipush (v := -4) 19 dX1_doCut_17 rfl rfl ?_
      refine x_callV (as := [.int (-4)]) (rest := []) (i := 0) (n' := n - 1) 22 dX1_doCut_19 rfl mv_X1_364 rfl rfl (hT.ks.l3 (by omega)) (xnh rfl) (by omega) (xst (Nat.le_of_ble_eq_true rfl)) (c_X4_by hT.ks (by omega) ?_)
      change X _ _ _ _ _ _ _ _ _ _
      refine k_nmA (v := v) (A1 := (xu I 3 0 0 ((-4)))) (by (repeat (first | rw [kI_xu] | rw [kI_xur] | rw [kI_xfil])) <;> rfl) fun I1 hI1 => ?_
      refine x_athrow dX1_doCut_22 (xnh rfl) ?_
      rw [hI1]
      exact hq.thr (by decide) hT
  · skip
    intro ho_
    have ho_ : R 46 me d = none := ho_
    try dsimp only at hq
    rw [ho_] at hq
    try dsimp only at hq
    rw [kI_xu (c := 3) rfl]
    exact hq.thr (by decide) hT
