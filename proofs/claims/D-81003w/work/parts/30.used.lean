set_option maxRecDepth 100000
theorem dX1_isUsed_0 : decode cX1_isUsed 0 = .ok (.aload_n 0, 1) := by decide +kernel
theorem dX1_isUsed_1 : decode cX1_isUsed 1 = .ok (.getfield 39, 3) := by decide +kernel
theorem dX1_isUsed_4 : decode cX1_isUsed 4 = .ok (.astore_n 2, 1) := by decide +kernel
theorem dX1_isUsed_5 : decode cX1_isUsed 5 = .ok (.aload_n 2, 1) := by decide +kernel
theorem dX1_isUsed_6 : decode cX1_isUsed 6 = .ok (.arraylength, 1) := by decide +kernel
theorem dX1_isUsed_7 : decode cX1_isUsed 7 = .ok (.istore_n 3, 1) := by decide +kernel
theorem dX1_isUsed_8 : decode cX1_isUsed 8 = .ok (.iconst 0, 1) := by decide +kernel
theorem dX1_isUsed_9 : decode cX1_isUsed 9 = .ok (.istore 4, 2) := by decide +kernel
theorem dX1_isUsed_11 : decode cX1_isUsed 11 = .ok (.iload 4, 2) := by decide +kernel
theorem dX1_isUsed_13 : decode cX1_isUsed 13 = .ok (.iload_n 3, 1) := by decide +kernel
theorem dX1_isUsed_14 : decode cX1_isUsed 14 = .ok (.if_icmp .ge 51, 3) := by decide +kernel
theorem dX1_isUsed_17 : decode cX1_isUsed 17 = .ok (.aload_n 2, 1) := by decide +kernel
theorem dX1_isUsed_18 : decode cX1_isUsed 18 = .ok (.iload 4, 2) := by decide +kernel
theorem dX1_isUsed_20 : decode cX1_isUsed 20 = .ok (.aaload, 1) := by decide +kernel
theorem dX1_isUsed_21 : decode cX1_isUsed 21 = .ok (.astore 5, 2) := by decide +kernel
theorem dX1_isUsed_23 : decode cX1_isUsed 23 = .ok (.aload 5, 2) := by decide +kernel
theorem dX1_isUsed_25 : decode cX1_isUsed 25 = .ok (.invokevirtual 223, 3) := by decide +kernel
theorem dX1_isUsed_28 : decode cX1_isUsed 28 = .ok (.ifCond .eq 12, 3) := by decide +kernel
theorem dX1_isUsed_31 : decode cX1_isUsed 31 = .ok (.aload 5, 2) := by decide +kernel
theorem dX1_isUsed_33 : decode cX1_isUsed 33 = .ok (.getfield 194, 3) := by decide +kernel
theorem dX1_isUsed_36 : decode cX1_isUsed 36 = .ok (.aload_n 1, 1) := by decide +kernel
theorem dX1_isUsed_37 : decode cX1_isUsed 37 = .ok (.if_acmp .eq 20, 3) := by decide +kernel
theorem dX1_isUsed_40 : decode cX1_isUsed 40 = .ok (.aload 5, 2) := by decide +kernel
theorem dX1_isUsed_42 : decode cX1_isUsed 42 = .ok (.invokevirtual 231, 3) := by decide +kernel
theorem dX1_isUsed_45 : decode cX1_isUsed 45 = .ok (.ifCond .eq 14, 3) := by decide +kernel
theorem dX1_isUsed_48 : decode cX1_isUsed 48 = .ok (.aload 5, 2) := by decide +kernel
theorem dX1_isUsed_50 : decode cX1_isUsed 50 = .ok (.getfield 252, 3) := by decide +kernel
theorem dX1_isUsed_53 : decode cX1_isUsed 53 = .ok (.aload_n 1, 1) := by decide +kernel
theorem dX1_isUsed_54 : decode cX1_isUsed 54 = .ok (.if_acmp .ne 5, 3) := by decide +kernel
theorem dX1_isUsed_57 : decode cX1_isUsed 57 = .ok (.iconst 1, 1) := by decide +kernel
theorem dX1_isUsed_58 : decode cX1_isUsed 58 = .ok (.ireturn, 1) := by decide +kernel
theorem dX1_isUsed_59 : decode cX1_isUsed 59 = .ok (.iinc 4 1, 3) := by decide +kernel
theorem dX1_isUsed_62 : decode cX1_isUsed 62 = .ok (.goto (-51), 3) := by decide +kernel
theorem dX1_isUsed_65 : decode cX1_isUsed 65 = .ok (.aload_n 0, 1) := by decide +kernel
theorem dX1_isUsed_66 : decode cX1_isUsed 66 = .ok (.getfield 27, 3) := by decide +kernel
theorem dX1_isUsed_69 : decode cX1_isUsed 69 = .ok (.astore_n 2, 1) := by decide +kernel
theorem dX1_isUsed_70 : decode cX1_isUsed 70 = .ok (.aload_n 2, 1) := by decide +kernel
theorem dX1_isUsed_71 : decode cX1_isUsed 71 = .ok (.arraylength, 1) := by decide +kernel
theorem dX1_isUsed_72 : decode cX1_isUsed 72 = .ok (.istore_n 3, 1) := by decide +kernel
theorem dX1_isUsed_73 : decode cX1_isUsed 73 = .ok (.iconst 0, 1) := by decide +kernel
theorem dX1_isUsed_74 : decode cX1_isUsed 74 = .ok (.istore 4, 2) := by decide +kernel
theorem dX1_isUsed_76 : decode cX1_isUsed 76 = .ok (.iload 4, 2) := by decide +kernel
theorem dX1_isUsed_78 : decode cX1_isUsed 78 = .ok (.iload_n 3, 1) := by decide +kernel
theorem dX1_isUsed_79 : decode cX1_isUsed 79 = .ok (.if_icmp .ge 35, 3) := by decide +kernel
theorem dX1_isUsed_82 : decode cX1_isUsed 82 = .ok (.aload_n 2, 1) := by decide +kernel
theorem dX1_isUsed_83 : decode cX1_isUsed 83 = .ok (.iload 4, 2) := by decide +kernel
theorem dX1_isUsed_85 : decode cX1_isUsed 85 = .ok (.aaload, 1) := by decide +kernel
theorem dX1_isUsed_86 : decode cX1_isUsed 86 = .ok (.astore 5, 2) := by decide +kernel
theorem dX1_isUsed_88 : decode cX1_isUsed 88 = .ok (.aload 5, 2) := by decide +kernel
theorem dX1_isUsed_90 : decode cX1_isUsed 90 = .ok (.getfield 255, 3) := by decide +kernel
theorem dX1_isUsed_93 : decode cX1_isUsed 93 = .ok (.aload_n 1, 1) := by decide +kernel
theorem dX1_isUsed_94 : decode cX1_isUsed 94 = .ok (.if_acmp .ne 14, 3) := by decide +kernel
theorem dX1_isUsed_97 : decode cX1_isUsed 97 = .ok (.aload_n 0, 1) := by decide +kernel
theorem dX1_isUsed_98 : decode cX1_isUsed 98 = .ok (.aload 5, 2) := by decide +kernel
theorem dX1_isUsed_100 : decode cX1_isUsed 100 = .ok (.invokevirtual 243, 3) := by decide +kernel
theorem dX1_isUsed_103 : decode cX1_isUsed 103 = .ok (.ifCond .eq 5, 3) := by decide +kernel
theorem dX1_isUsed_106 : decode cX1_isUsed 106 = .ok (.iconst 1, 1) := by decide +kernel
theorem dX1_isUsed_107 : decode cX1_isUsed 107 = .ok (.ireturn, 1) := by decide +kernel
theorem dX1_isUsed_108 : decode cX1_isUsed 108 = .ok (.iinc 4 1, 3) := by decide +kernel
theorem dX1_isUsed_111 : decode cX1_isUsed 111 = .ok (.goto (-35), 3) := by decide +kernel
theorem dX1_isUsed_114 : decode cX1_isUsed 114 = .ok (.iconst 0, 1) := by decide +kernel
theorem dX1_isUsed_115 : decode cX1_isUsed 115 = .ok (.ireturn, 1) := by decide +kernel
set_option maxHeartbeats 4000000 in
set_option maxRecDepth 100000 in
theorem m_X1_isUsed {G : xG} {n a b : Nat} {Q : Outcome → xS → Prop} {J : xJ} {Z : xR} {T : xT} {I : xI} {R : xR} {N B : Nat} (hk : KS Z T N B) (hr : kRef R N) {i : Nat} (hi : i < N) (hq : Q (.returned (some (.int (b2i (kUsed I R i))))) (I, J, R, Z, T)) (hno : ¬ ∃ p, p < 16 ∧ kUse1 I R i p) (k : Nat) (hn : 3 ≤ n) :
    (k ≤ 384) → (∀ p, p < k → ¬ (R 7 p 0 = some i ∧ kThere I R p)) → X G mX1_isUsed n a b Q (I, J, R, Z, T) 76 [(1, .ref (T.ad 0 0)), (1, .ref (T.ad 6 i)), (1, .ref (T.ad 24 0)), (1, .int (nI 384)), (1, .int (nI k)), xo] [] := by
  induction hm : 384 - k using Nat.strongRecOn generalizing k with
  | _ m_ ih =>
    intro h8 hv
    refine x_iload 78 dX1_isUsed_76 rfl rfl ?_
    refine x_iload_n 79 dX1_isUsed_78 rfl rfl ?_
    refine x_icmp_ge 114 82 dX1_isUsed_79 (by decide) rfl (fun c79 => ?_) (fun c79 => ?_)
    · skip
      have c79 : 384 ≤ k := (nI_leI (a := 384) (b := k) (by omega) (by omega)).mp c79
      refine x_iconst (v := 0) 115 dX1_isUsed_114 rfl rfl ?_
      refine x_zreturn dX1_isUsed_115 rfl (Or.inl rfl) ?_
      exact xr0 (P := kUsed I R i) (by rintro (h | ⟨p, hp, h⟩); exact hno h; exact hv p (by omega) h) hq
    · skip
      have c79 : ¬ (384 ≤ k) := fun h => c79 ((nI_leI (a := 384) (b := k) (by omega) (by omega)).mpr h)
      refine x_aload_n 83 dX1_isUsed_82 rfl rfl ?_
      refine x_iload 85 dX1_isUsed_83 rfl rfl ?_
      refine x_aldz 86 dX1_isUsed_85 rfl ar_24 rfl (hk.l24 (by omega)) (xb (hk.n24 (by omega)) (by omega) (by omega)) (hk.z24 (by omega)) ?_
      refine x_astore 88 [(1, .ref (T.ad 0 0)), (1, .ref (T.ad 6 i)), (1, .ref (T.ad 24 0)), (1, .int (nI 384)), (1, .int (nI k)), (1, .ref (T.ad 7 k))] dX1_isUsed_86 rfl (by decide) rfl ?_
      refine x_aload 90 dX1_isUsed_88 rfl rfl ?_
      refine x_getr 93 dX1_isUsed_90 rfl fl_X1_255 (hk.l7 (by omega)) ?_
      refine x_aload_n 94 dX1_isUsed_93 rfl rfl ?_
      refine x_asR ?_
      refine x_acmp_ne (c := 6) 108 97 dX1_isUsed_94 (by decide) rfl (fun _ h => hk.l6 (hr.of h)) (fun _ h => by cases h; exact (hk.l6 (by omega))) (fun c94 => ?_) (fun c94 => ?_)
      · skip
        refine x_iinc 111 [(1, .ref (T.ad 0 0)), (1, .ref (T.ad 6 i)), (1, .ref (T.ad 24 0)), (1, .int (nI 384)), (1, .int (nI (k + 1))), (1, .ref (T.ad 7 k))] dX1_isUsed_108 rfl (by decide) rfl (xi_1 k) rfl ?_
        refine x_goto 76 dX1_isUsed_111 (by decide) ?_
        refine x_fgt [(1, .ref (T.ad 0 0)), (1, .ref (T.ad 6 i)), (1, .ref (T.ad 24 0)), (1, .int (nI 384)), (1, .int (nI (k + 1))), xo] ⟨Or.inr rfl, Or.inr rfl, Or.inr rfl, Or.inr rfl, Or.inr rfl, Or.inl rfl, trivial⟩ ?_
        exact ih _ (by rw [← hm]; omega) (k + 1) rfl (by omega) (lt_succ_of (P := fun p => ¬ (R 7 p 0 = some i ∧ kThere I R p)) hv (by rintro ⟨h1, h2⟩; first | exact c94 h1 | exact c103 h2))
      · skip
        refine x_aload_n 98 dX1_isUsed_97 rfl rfl ?_
        refine x_aload 100 dX1_isUsed_98 rfl rfl ?_
        refine x_callV (as := [.ref (T.ad 7 k)]) (rest := []) (i := 0) (n' := n - 1) 103 dX1_isUsed_100 rfl mv_X1_243 rfl rfl (hk.l0 (by omega)) (xnh rfl) (by omega) (xst (Nat.le_of_ble_eq_true rfl)) (c_X1_isThere hk hr (by omega) (by omega) ?_)
        change X _ _ _ _ _ _ _ _ _ _
        refine x_if_eq 108 106 dX1_isUsed_103 (by decide) rfl (fun c103 => ?_) (fun c103 => ?_)
        · skip
          have c103 : ¬ (kThere I R k) := b2i_0.mp c103
          refine x_iinc 111 [(1, .ref (T.ad 0 0)), (1, .ref (T.ad 6 i)), (1, .ref (T.ad 24 0)), (1, .int (nI 384)), (1, .int (nI (k + 1))), (1, .ref (T.ad 7 k))] dX1_isUsed_108 rfl (by decide) rfl (xi_1 k) rfl ?_
          refine x_goto 76 dX1_isUsed_111 (by decide) ?_
          refine x_fgt [(1, .ref (T.ad 0 0)), (1, .ref (T.ad 6 i)), (1, .ref (T.ad 24 0)), (1, .int (nI 384)), (1, .int (nI (k + 1))), xo] ⟨Or.inr rfl, Or.inr rfl, Or.inr rfl, Or.inr rfl, Or.inr rfl, Or.inl rfl, trivial⟩ ?_
          exact ih _ (by rw [← hm]; omega) (k + 1) rfl (by omega) (lt_succ_of (P := fun p => ¬ (R 7 p 0 = some i ∧ kThere I R p)) hv (by rintro ⟨h1, h2⟩; first | exact c94 h1 | exact c103 h2))
        · skip
          have c103 : kThere I R k := b2i_n0.mp c103
          refine x_iconst (v := 1) 107 dX1_isUsed_106 rfl rfl ?_
          refine x_zreturn dX1_isUsed_107 rfl (Or.inr rfl) ?_
          exact xr1 (P := kUsed I R i) (Or.inr ⟨k, by omega, c94, c103⟩) hq
set_option maxHeartbeats 4000000 in
set_option maxRecDepth 100000 in
theorem l_X1_isUsed {G : xG} {n a b : Nat} {Q : Outcome → xS → Prop} {J : xJ} {Z : xR} {T : xT} {I : xI} {R : xR} {N B : Nat} (hk : KS Z T N B) (hr : kRef R N) {i : Nat} (hi : i < N) (hq : Q (.returned (some (.int (b2i (kUsed I R i))))) (I, J, R, Z, T)) (k : Nat) (hn : 3 ≤ n) :
    (k ≤ 16) → (∀ p, p < k → ¬ kUse1 I R i p) → X G mX1_isUsed n a b Q (I, J, R, Z, T) 11 [(1, .ref (T.ad 0 0)), (1, .ref (T.ad 6 i)), (1, .ref (T.ad 26 0)), (1, .int (nI 16)), (1, .int (nI k)), xo] [] := by
  induction hm : 16 - k using Nat.strongRecOn generalizing k with
  | _ m_ ih =>
    intro h8 hv
    refine x_iload 13 dX1_isUsed_11 rfl rfl ?_
    refine x_iload_n 14 dX1_isUsed_13 rfl rfl ?_
    refine x_icmp_ge 65 17 dX1_isUsed_14 (by decide) rfl (fun c14 => ?_) (fun c14 => ?_)
    · skip
      have c14 : 16 ≤ k := (nI_leI (a := 16) (b := k) (by omega) (by omega)).mp c14
      refine x_aload_n 66 dX1_isUsed_65 rfl rfl ?_
      refine x_getz 69 dX1_isUsed_66 rfl fl_X1_27 (hk.l0 (by omega)) (hk.z0_6 (by omega)) ?_
      refine x_astore_n 70 [(1, .ref (T.ad 0 0)), (1, .ref (T.ad 6 i)), (1, .ref (T.ad 24 0)), (1, .int (nI 16)), (1, .int (nI k)), xo] dX1_isUsed_69 rfl (by decide) rfl ?_
      refine x_aload_n 71 dX1_isUsed_70 rfl rfl ?_
      refine x_alen 72 dX1_isUsed_71 rfl ar_24 (hk.l24 (by omega)) ?_
      refine x_vi (congrArg nI (hk.n24 (by omega))) ?_
      refine x_istore_n 73 [(1, .ref (T.ad 0 0)), (1, .ref (T.ad 6 i)), (1, .ref (T.ad 24 0)), (1, .int (nI 384)), (1, .int (nI k)), xo] dX1_isUsed_72 rfl (by decide) rfl ?_
      refine x_iconst (v := 0) 74 dX1_isUsed_73 rfl rfl ?_
      refine x_istore 76 [(1, .ref (T.ad 0 0)), (1, .ref (T.ad 6 i)), (1, .ref (T.ad 24 0)), (1, .int (nI 384)), (1, .int 0), xo] dX1_isUsed_74 rfl (by decide) rfl ?_
      exact m_X1_isUsed hk hr hi hq (fun ⟨p, hp, h⟩ => hv p (by omega) h) 0 hn (by omega) (fun p hp => absurd hp (by omega))
    · skip
      have c14 : ¬ (16 ≤ k) := fun h => c14 ((nI_leI (a := 16) (b := k) (by omega) (by omega)).mpr h)
      refine x_aload_n 18 dX1_isUsed_17 rfl rfl ?_
      refine x_iload 20 dX1_isUsed_18 rfl rfl ?_
      refine x_aldz 21 dX1_isUsed_20 rfl ar_26 rfl (hk.l26 (by omega)) (xb (hk.n26 (by omega)) (by omega) (by omega)) (hk.z26 (by omega)) ?_
      refine x_astore 23 [(1, .ref (T.ad 0 0)), (1, .ref (T.ad 6 i)), (1, .ref (T.ad 26 0)), (1, .int (nI 16)), (1, .int (nI k)), (1, .ref (T.ad 9 k))] dX1_isUsed_21 rfl (by decide) rfl ?_
      refine x_aload 25 dX1_isUsed_23 rfl rfl ?_
      refine x_callV (as := []) (rest := []) (i := k) (n' := n - 1) 28 dX1_isUsed_25 rfl mv_X1_223 rfl rfl (hk.l9 (by omega)) (xnh rfl) (by omega) (xst (Nat.le_of_ble_eq_true rfl)) (c_X10_acts hk (by omega) (by omega) ?_)
      change X _ _ _ _ _ _ _ _ _ _
      refine x_if_eq 40 31 dX1_isUsed_28 (by decide) rfl (fun c28 => ?_) (fun c28 => ?_)
      · skip
        have c28 : ¬ (pActs I k) := b2i_0.mp c28
        refine x_aload 42 dX1_isUsed_40 rfl rfl ?_
        refine x_callV (as := []) (rest := []) (i := k) (n' := n - 1) 45 dX1_isUsed_42 rfl mv_X1_231 rfl rfl (hk.l9 (by omega)) (xnh rfl) (by omega) (xst (Nat.le_of_ble_eq_true rfl)) (c_X10_hasGroup hk (by omega) (by omega) ?_)
        change X _ _ _ _ _ _ _ _ _ _
        refine x_if_eq 59 48 dX1_isUsed_45 (by decide) rfl (fun c45 => ?_) (fun c45 => ?_)
        · skip
          have c45 : ¬ (pGrp I k) := b2i_0.mp c45
          refine x_iinc 62 [(1, .ref (T.ad 0 0)), (1, .ref (T.ad 6 i)), (1, .ref (T.ad 26 0)), (1, .int (nI 16)), (1, .int (nI (k + 1))), (1, .ref (T.ad 9 k))] dX1_isUsed_59 rfl (by decide) rfl (xi_1 k) rfl ?_
          refine x_goto 11 dX1_isUsed_62 (by decide) ?_
          refine x_fgt [(1, .ref (T.ad 0 0)), (1, .ref (T.ad 6 i)), (1, .ref (T.ad 26 0)), (1, .int (nI 16)), (1, .int (nI (k + 1))), xo] ⟨Or.inr rfl, Or.inr rfl, Or.inr rfl, Or.inr rfl, Or.inr rfl, Or.inl rfl, trivial⟩ ?_
          exact ih _ (by rw [← hm]; omega) (k + 1) rfl (by omega) (lt_succ_of (P := fun p => ¬ kUse1 I R i p) hv (by unfold kUse1; rintro (⟨h1, h2⟩ | ⟨h1, h2⟩) <;> first | exact c28 h1 | exact c37 h2 | exact c45 h1 | exact c54 h2))
        · skip
          have c45 : pGrp I k := b2i_n0.mp c45
          refine x_aload 50 dX1_isUsed_48 rfl rfl ?_
          refine x_getr 53 dX1_isUsed_50 rfl fl_X1_252 (hk.l9 (by omega)) ?_
          refine x_aload_n 54 dX1_isUsed_53 rfl rfl ?_
          refine x_asR ?_
          refine x_acmp_ne (c := 6) 59 57 dX1_isUsed_54 (by decide) rfl (fun _ h => hk.l6 (hr.hw h)) (fun _ h => by cases h; exact (hk.l6 (by omega))) (fun c54 => ?_) (fun c54 => ?_)
          · skip
            refine x_iinc 62 [(1, .ref (T.ad 0 0)), (1, .ref (T.ad 6 i)), (1, .ref (T.ad 26 0)), (1, .int (nI 16)), (1, .int (nI (k + 1))), (1, .ref (T.ad 9 k))] dX1_isUsed_59 rfl (by decide) rfl (xi_1 k) rfl ?_
            refine x_goto 11 dX1_isUsed_62 (by decide) ?_
            refine x_fgt [(1, .ref (T.ad 0 0)), (1, .ref (T.ad 6 i)), (1, .ref (T.ad 26 0)), (1, .int (nI 16)), (1, .int (nI (k + 1))), xo] ⟨Or.inr rfl, Or.inr rfl, Or.inr rfl, Or.inr rfl, Or.inr rfl, Or.inl rfl, trivial⟩ ?_
            exact ih _ (by rw [← hm]; omega) (k + 1) rfl (by omega) (lt_succ_of (P := fun p => ¬ kUse1 I R i p) hv (by unfold kUse1; rintro (⟨h1, h2⟩ | ⟨h1, h2⟩) <;> first | exact c28 h1 | exact c37 h2 | exact c45 h1 | exact c54 h2))
          · skip
            refine x_iconst (v := 1) 58 dX1_isUsed_57 rfl rfl ?_
            refine x_zreturn dX1_isUsed_58 rfl (Or.inr rfl) ?_
            exact xr1 (P := kUsed I R i) (Or.inl ⟨k, by omega, by first | exact Or.inl ⟨c28, c37⟩ | exact Or.inr ⟨c45, c54⟩⟩) hq
      · skip
        have c28 : pActs I k := b2i_n0.mp c28
        refine x_aload 33 dX1_isUsed_31 rfl rfl ?_
        refine x_getr 36 dX1_isUsed_33 rfl fl_X1_194 (hk.l9 (by omega)) ?_
        refine x_aload_n 37 dX1_isUsed_36 rfl rfl ?_
        refine x_asR ?_
        refine x_acmp_eq (c := 6) 57 40 dX1_isUsed_37 (by decide) rfl (fun _ h => hk.l6 (hr.wk h)) (fun _ h => by cases h; exact (hk.l6 (by omega))) (fun c37 => ?_) (fun c37 => ?_)
        · skip
          refine x_iconst (v := 1) 58 dX1_isUsed_57 rfl rfl ?_
          refine x_zreturn dX1_isUsed_58 rfl (Or.inr rfl) ?_
          exact xr1 (P := kUsed I R i) (Or.inl ⟨k, by omega, by first | exact Or.inl ⟨c28, c37⟩ | exact Or.inr ⟨c45, c54⟩⟩) hq
        · skip
          refine x_aload 42 dX1_isUsed_40 rfl rfl ?_
          refine x_callV (as := []) (rest := []) (i := k) (n' := n - 1) 45 dX1_isUsed_42 rfl mv_X1_231 rfl rfl (hk.l9 (by omega)) (xnh rfl) (by omega) (xst (Nat.le_of_ble_eq_true rfl)) (c_X10_hasGroup hk (by omega) (by omega) ?_)
          change X _ _ _ _ _ _ _ _ _ _
          refine x_if_eq 59 48 dX1_isUsed_45 (by decide) rfl (fun c45 => ?_) (fun c45 => ?_)
          · skip
            have c45 : ¬ (pGrp I k) := b2i_0.mp c45
            refine x_iinc 62 [(1, .ref (T.ad 0 0)), (1, .ref (T.ad 6 i)), (1, .ref (T.ad 26 0)), (1, .int (nI 16)), (1, .int (nI (k + 1))), (1, .ref (T.ad 9 k))] dX1_isUsed_59 rfl (by decide) rfl (xi_1 k) rfl ?_
            refine x_goto 11 dX1_isUsed_62 (by decide) ?_
            refine x_fgt [(1, .ref (T.ad 0 0)), (1, .ref (T.ad 6 i)), (1, .ref (T.ad 26 0)), (1, .int (nI 16)), (1, .int (nI (k + 1))), xo] ⟨Or.inr rfl, Or.inr rfl, Or.inr rfl, Or.inr rfl, Or.inr rfl, Or.inl rfl, trivial⟩ ?_
            exact ih _ (by rw [← hm]; omega) (k + 1) rfl (by omega) (lt_succ_of (P := fun p => ¬ kUse1 I R i p) hv (by unfold kUse1; rintro (⟨h1, h2⟩ | ⟨h1, h2⟩) <;> first | exact c28 h1 | exact c37 h2 | exact c45 h1 | exact c54 h2))
          · skip
            have c45 : pGrp I k := b2i_n0.mp c45
            refine x_aload 50 dX1_isUsed_48 rfl rfl ?_
            refine x_getr 53 dX1_isUsed_50 rfl fl_X1_252 (hk.l9 (by omega)) ?_
            refine x_aload_n 54 dX1_isUsed_53 rfl rfl ?_
            refine x_asR ?_
            refine x_acmp_ne (c := 6) 59 57 dX1_isUsed_54 (by decide) rfl (fun _ h => hk.l6 (hr.hw h)) (fun _ h => by cases h; exact (hk.l6 (by omega))) (fun c54 => ?_) (fun c54 => ?_)
            · skip
              refine x_iinc 62 [(1, .ref (T.ad 0 0)), (1, .ref (T.ad 6 i)), (1, .ref (T.ad 26 0)), (1, .int (nI 16)), (1, .int (nI (k + 1))), (1, .ref (T.ad 9 k))] dX1_isUsed_59 rfl (by decide) rfl (xi_1 k) rfl ?_
              refine x_goto 11 dX1_isUsed_62 (by decide) ?_
              refine x_fgt [(1, .ref (T.ad 0 0)), (1, .ref (T.ad 6 i)), (1, .ref (T.ad 26 0)), (1, .int (nI 16)), (1, .int (nI (k + 1))), xo] ⟨Or.inr rfl, Or.inr rfl, Or.inr rfl, Or.inr rfl, Or.inr rfl, Or.inl rfl, trivial⟩ ?_
              exact ih _ (by rw [← hm]; omega) (k + 1) rfl (by omega) (lt_succ_of (P := fun p => ¬ kUse1 I R i p) hv (by unfold kUse1; rintro (⟨h1, h2⟩ | ⟨h1, h2⟩) <;> first | exact c28 h1 | exact c37 h2 | exact c45 h1 | exact c54 h2))
            · skip
              refine x_iconst (v := 1) 58 dX1_isUsed_57 rfl rfl ?_
              refine x_zreturn dX1_isUsed_58 rfl (Or.inr rfl) ?_
              exact xr1 (P := kUsed I R i) (Or.inl ⟨k, by omega, by first | exact Or.inl ⟨c28, c37⟩ | exact Or.inr ⟨c45, c54⟩⟩) hq
set_option maxHeartbeats 4000000 in
set_option maxRecDepth 100000 in
theorem c_X1_isUsed {G : xG} {n : Nat} {Q : Outcome → xS → Prop} {I : xI} {J : xJ} {R Z : xR} {T : xT} {N B : Nat} (hk : KS Z T N B) (hr : kRef R N) {i : Nat} (hi : i < N) (hn : 3 ≤ n) (hq : Q (.returned (some (.int (b2i (kUsed I R i))))) (I, J, R, Z, T)) : xCall G mX1_isUsed n [.ref (T.ad 0 0), .ref (T.ad 6 i)] (I, J, R, Z, T) Q := by
  refine x_met (L0 := [(1, .ref (T.ad 0 0)), (1, .ref (T.ad 6 i)), xo, xo, xo, xo]) (by decide +kernel) rfl ⟨Nat.le_of_ble_eq_true rfl, rfl⟩ ?_
  refine x_aload_n 1 dX1_isUsed_0 rfl rfl ?_
  refine x_getz 4 dX1_isUsed_1 rfl fl_X1_39 (hk.l0 (by omega)) (hk.z0_8 (by omega)) ?_
  refine x_astore_n 5 [(1, .ref (T.ad 0 0)), (1, .ref (T.ad 6 i)), (1, .ref (T.ad 26 0)), xo, xo, xo] dX1_isUsed_4 rfl (by decide) rfl ?_
  refine x_aload_n 6 dX1_isUsed_5 rfl rfl ?_
  refine x_alen 7 dX1_isUsed_6 rfl ar_26 (hk.l26 (by omega)) ?_
  refine x_vi (congrArg nI (hk.n26 (by omega))) ?_
  refine x_istore_n 8 [(1, .ref (T.ad 0 0)), (1, .ref (T.ad 6 i)), (1, .ref (T.ad 26 0)), (1, .int (nI 16)), xo, xo] dX1_isUsed_7 rfl (by decide) rfl ?_
  refine x_iconst (v := 0) 9 dX1_isUsed_8 rfl rfl ?_
  refine x_istore 11 [(1, .ref (T.ad 0 0)), (1, .ref (T.ad 6 i)), (1, .ref (T.ad 26 0)), (1, .int (nI 16)), (1, .int 0), xo] dX1_isUsed_9 rfl (by decide) rfl ?_
  exact l_X1_isUsed hk hr hi hq 0 hn (by omega) (fun p hp => absurd hp (by omega))
theorem dX1_freeOpening_0 : decode cX1_freeOpening 0 = .ok (.aload_n 0, 1) := by decide +kernel
theorem dX1_freeOpening_1 : decode cX1_freeOpening 1 = .ok (.getfield 27, 3) := by decide +kernel
theorem dX1_freeOpening_4 : decode cX1_freeOpening 4 = .ok (.astore_n 1, 1) := by decide +kernel
theorem dX1_freeOpening_5 : decode cX1_freeOpening 5 = .ok (.aload_n 1, 1) := by decide +kernel
theorem dX1_freeOpening_6 : decode cX1_freeOpening 6 = .ok (.arraylength, 1) := by decide +kernel
theorem dX1_freeOpening_7 : decode cX1_freeOpening 7 = .ok (.istore_n 2, 1) := by decide +kernel
theorem dX1_freeOpening_8 : decode cX1_freeOpening 8 = .ok (.iconst 0, 1) := by decide +kernel
theorem dX1_freeOpening_9 : decode cX1_freeOpening 9 = .ok (.istore_n 3, 1) := by decide +kernel
theorem dX1_freeOpening_10 : decode cX1_freeOpening 10 = .ok (.iload_n 3, 1) := by decide +kernel
theorem dX1_freeOpening_11 : decode cX1_freeOpening 11 = .ok (.iload_n 2, 1) := by decide +kernel
theorem dX1_freeOpening_12 : decode cX1_freeOpening 12 = .ok (.if_icmp .ge 26, 3) := by decide +kernel
theorem dX1_freeOpening_15 : decode cX1_freeOpening 15 = .ok (.aload_n 1, 1) := by decide +kernel
theorem dX1_freeOpening_16 : decode cX1_freeOpening 16 = .ok (.iload_n 3, 1) := by decide +kernel
theorem dX1_freeOpening_17 : decode cX1_freeOpening 17 = .ok (.aaload, 1) := by decide +kernel
theorem dX1_freeOpening_18 : decode cX1_freeOpening 18 = .ok (.astore 4, 2) := by decide +kernel
theorem dX1_freeOpening_20 : decode cX1_freeOpening 20 = .ok (.aload_n 0, 1) := by decide +kernel
theorem dX1_freeOpening_21 : decode cX1_freeOpening 21 = .ok (.aload 4, 2) := by decide +kernel
theorem dX1_freeOpening_23 : decode cX1_freeOpening 23 = .ok (.invokevirtual 243, 3) := by decide +kernel
theorem dX1_freeOpening_26 : decode cX1_freeOpening 26 = .ok (.ifCond .ne 6, 3) := by decide +kernel
theorem dX1_freeOpening_29 : decode cX1_freeOpening 29 = .ok (.aload 4, 2) := by decide +kernel
theorem dX1_freeOpening_31 : decode cX1_freeOpening 31 = .ok (.areturn, 1) := by decide +kernel
theorem dX1_freeOpening_32 : decode cX1_freeOpening 32 = .ok (.iinc 3 1, 3) := by decide +kernel
theorem dX1_freeOpening_35 : decode cX1_freeOpening 35 = .ok (.goto (-25), 3) := by decide +kernel
theorem dX1_freeOpening_38 : decode cX1_freeOpening 38 = .ok (.new 7, 3) := by decide +kernel
theorem dX1_freeOpening_41 : decode cX1_freeOpening 41 = .ok (.dup, 1) := by decide +kernel
theorem dX1_freeOpening_42 : decode cX1_freeOpening 42 = .ok (.invokespecial 9, 3) := by decide +kernel
theorem dX1_freeOpening_45 : decode cX1_freeOpening 45 = .ok (.athrow, 1) := by decide +kernel
noncomputable def kFreeO (I : xI) (R : xR) : Nat := (fst0 (fun o => ¬ kThere I R o) 0 384).getD 0
set_option maxHeartbeats 4000000 in
set_option maxRecDepth 100000 in
theorem l_X1_freeOpening {G : xG} {n a b : Nat} {Q : Outcome → xS → Prop} {J : xJ} {Z : xR} {T : xT} {I : xI} {R : xR} {N B : Nat} (hk : KS Z T N B) (hr : kRef R N) (hex : ∃ o, o < 384 ∧ ¬ kThere I R o) (hq : Q (.returned (some (.ref (T.ad 7 (kFreeO I R))))) (I, J, R, Z, T)) (k : Nat) (hn : 3 ≤ n) :
    (k ≤ 384) → (∀ p, p < k → ¬ ¬ kThere I R p) → X G mX1_freeOpening n a b Q (I, J, R, Z, T) 10 [(1, .ref (T.ad 0 0)), (1, .ref (T.ad 24 0)), (1, .int (nI 384)), (1, .int (nI k)), xo] [] := by
  induction hm : 384 - k using Nat.strongRecOn generalizing k with
  | _ m_ ih =>
    intro h8 hv
    refine x_iload_n 11 dX1_freeOpening_10 rfl rfl ?_
    refine x_iload_n 12 dX1_freeOpening_11 rfl rfl ?_
    refine x_icmp_ge 38 15 dX1_freeOpening_12 (by decide) rfl (fun c12 => ?_) (fun c12 => ?_)
    · skip
      have c12 : 384 ≤ k := (nI_leI (a := 384) (b := k) (by omega) (by omega)).mp c12
      obtain ⟨o, h1, h2⟩ := hex; exact absurd h2 (hv o (by omega))
    · skip
      have c12 : ¬ (384 ≤ k) := fun h => c12 ((nI_leI (a := 384) (b := k) (by omega) (by omega)).mpr h)
      refine x_aload_n 16 dX1_freeOpening_15 rfl rfl ?_
      refine x_iload_n 17 dX1_freeOpening_16 rfl rfl ?_
      refine x_aldz 18 dX1_freeOpening_17 rfl ar_24 rfl (hk.l24 (by omega)) (xb (hk.n24 (by omega)) (by omega) (by omega)) (hk.z24 (by omega)) ?_
      refine x_astore 20 [(1, .ref (T.ad 0 0)), (1, .ref (T.ad 24 0)), (1, .int (nI 384)), (1, .int (nI k)), (1, .ref (T.ad 7 k))] dX1_freeOpening_18 rfl (by decide) rfl ?_
      refine x_aload_n 21 dX1_freeOpening_20 rfl rfl ?_
      refine x_aload 23 dX1_freeOpening_21 rfl rfl ?_
      refine x_callV (as := [.ref (T.ad 7 k)]) (rest := []) (i := 0) (n' := n - 1) 26 dX1_freeOpening_23 rfl mv_X1_243 rfl rfl (hk.l0 (by omega)) (xnh rfl) (by omega) (xst (Nat.le_of_ble_eq_true rfl)) (c_X1_isThere hk hr (by omega) (by omega) ?_)
      change X _ _ _ _ _ _ _ _ _ _
      refine x_if_ne 32 29 dX1_freeOpening_26 (by decide) rfl (fun c26 => ?_) (fun c26 => ?_)
      · skip
        have c26 : kThere I R k := b2i_n0.mp c26
        refine x_iinc 35 [(1, .ref (T.ad 0 0)), (1, .ref (T.ad 24 0)), (1, .int (nI 384)), (1, .int (nI (k + 1))), (1, .ref (T.ad 7 k))] dX1_freeOpening_32 rfl (by decide) rfl (xi_1 k) rfl ?_
        refine x_goto 10 dX1_freeOpening_35 (by decide) ?_
        refine x_fgt [(1, .ref (T.ad 0 0)), (1, .ref (T.ad 24 0)), (1, .int (nI 384)), (1, .int (nI (k + 1))), xo] ⟨Or.inr rfl, Or.inr rfl, Or.inr rfl, Or.inr rfl, Or.inl rfl, trivial⟩ ?_
        exact ih _ (by rw [← hm]; omega) (k + 1) rfl (by omega) (lt_succ_of (P := fun p => ¬ ¬ kThere I R p) hv (fun h => h c26))
      · skip
        have c26 : ¬ (kThere I R k) := b2i_0.mp c26
        refine x_aload 31 dX1_freeOpening_29 rfl rfl ?_
        refine x_areturn dX1_freeOpening_31 rfl (Or.inl ⟨_, rfl⟩) ?_
        have e : kFreeO I R = k := by unfold kFreeO; rw [fst0_some 384 0 k (by omega) (by omega) c26 (fun j _ hj => hv j hj)]; rfl
        rw [e] at hq; exact hq
set_option maxHeartbeats 4000000 in
set_option maxRecDepth 100000 in
theorem c_X1_freeOpening {G : xG} {n : Nat} {Q : Outcome → xS → Prop} {I : xI} {J : xJ} {R Z : xR} {T : xT} {N B : Nat} (hk : KS Z T N B) (hr : kRef R N) (hex : ∃ o, o < 384 ∧ ¬ kThere I R o) (hn : 3 ≤ n) (hq : Q (.returned (some (.ref (T.ad 7 (kFreeO I R))))) (I, J, R, Z, T)) : xCall G mX1_freeOpening n [.ref (T.ad 0 0)] (I, J, R, Z, T) Q := by
  refine x_met (L0 := [(1, .ref (T.ad 0 0)), xo, xo, xo, xo]) (by decide +kernel) rfl ⟨Nat.le_of_ble_eq_true rfl, rfl⟩ ?_
  refine x_aload_n 1 dX1_freeOpening_0 rfl rfl ?_
  refine x_getz 4 dX1_freeOpening_1 rfl fl_X1_27 (hk.l0 (by omega)) (hk.z0_6 (by omega)) ?_
  refine x_astore_n 5 [(1, .ref (T.ad 0 0)), (1, .ref (T.ad 24 0)), xo, xo, xo] dX1_freeOpening_4 rfl (by decide) rfl ?_
  refine x_aload_n 6 dX1_freeOpening_5 rfl rfl ?_
  refine x_alen 7 dX1_freeOpening_6 rfl ar_24 (hk.l24 (by omega)) ?_
  refine x_vi (congrArg nI (hk.n24 (by omega))) ?_
  refine x_istore_n 8 [(1, .ref (T.ad 0 0)), (1, .ref (T.ad 24 0)), (1, .int (nI 384)), xo, xo] dX1_freeOpening_7 rfl (by decide) rfl ?_
  refine x_iconst (v := 0) 9 dX1_freeOpening_8 rfl rfl ?_
  refine x_istore_n 10 [(1, .ref (T.ad 0 0)), (1, .ref (T.ad 24 0)), (1, .int (nI 384)), (1, .int 0), xo] dX1_freeOpening_9 rfl (by decide) rfl ?_
  exact l_X1_freeOpening hk hr hex hq 0 hn (by omega) (fun p hp => absurd hp (by omega))
theorem kFreeO_lt {I : xI} {R : xR} (hex : ∃ o, o < 384 ∧ ¬ kThere I R o) : kFreeO I R < 384 ∧ ¬ kThere I R (kFreeO I R) := by
  unfold kFreeO
  cases h : fst0 (fun o => ¬ kThere I R o) 0 384 with
  | none => obtain ⟨o, h1, h2⟩ := hex; exact absurd h2 (fst0_no 384 0 h o (by omega) (by omega))
  | some k => have := fst0_spec 384 0 k h; exact ⟨by simpa using this.2.1, this.2.2.1⟩
theorem dX1_opening_0 : decode cX1_opening 0 = .ok (.aload_n 0, 1) := by decide +kernel
theorem dX1_opening_1 : decode cX1_opening 1 = .ok (.getfield 27, 3) := by decide +kernel
theorem dX1_opening_4 : decode cX1_opening 4 = .ok (.iload_n 1, 1) := by decide +kernel
theorem dX1_opening_5 : decode cX1_opening 5 = .ok (.aaload, 1) := by decide +kernel
theorem dX1_opening_6 : decode cX1_opening 6 = .ok (.areturn, 1) := by decide +kernel
set_option maxHeartbeats 4000000 in
set_option maxRecDepth 100000 in
theorem c_X1_opening {G : xG} {n : Nat} {Q : Outcome → xS → Prop} {I : xI} {J : xJ} {R Z : xR} {T : xT} {N B : Nat} (hk : KS Z T N B) {o : Nat} (ho : o < 384) (hn : 1 ≤ n) (hq : Q (.returned (some (.ref (T.ad 7 o)))) (I, J, R, Z, T)) : xCall G mX1_opening n [.ref (T.ad 0 0), .int (nI o)] (I, J, R, Z, T) Q := by
  refine x_met (L0 := [(1, .ref (T.ad 0 0)), (1, .int (nI o))]) (by decide +kernel) rfl ⟨Nat.le_of_ble_eq_true rfl, rfl⟩ ?_
  refine x_aload_n 1 dX1_opening_0 rfl rfl ?_
  refine x_getz 4 dX1_opening_1 rfl fl_X1_27 (hk.l0 (by omega)) (hk.z0_6 (by omega)) ?_
  refine x_iload_n 5 dX1_opening_4 rfl rfl ?_
  refine x_aldz 6 dX1_opening_5 rfl ar_24 rfl (hk.l24 (by omega)) (xb (hk.n24 (by omega)) (by omega) (by omega)) (hk.z24 (by omega)) ?_
  refine x_areturn dX1_opening_6 rfl (Or.inl ⟨_, rfl⟩) ?_
  exact hq
theorem dX1_numberOf_0 : decode cX1_numberOf 0 = .ok (.iconst 0, 1) := by decide +kernel
theorem dX1_numberOf_1 : decode cX1_numberOf 1 = .ok (.istore_n 2, 1) := by decide +kernel
theorem dX1_numberOf_2 : decode cX1_numberOf 2 = .ok (.iload_n 2, 1) := by decide +kernel
theorem dX1_numberOf_3 : decode cX1_numberOf 3 = .ok (.aload_n 0, 1) := by decide +kernel
theorem dX1_numberOf_4 : decode cX1_numberOf 4 = .ok (.getfield 27, 3) := by decide +kernel
theorem dX1_numberOf_7 : decode cX1_numberOf 7 = .ok (.arraylength, 1) := by decide +kernel
theorem dX1_numberOf_8 : decode cX1_numberOf 8 = .ok (.if_icmp .ge 21, 3) := by decide +kernel
theorem dX1_numberOf_11 : decode cX1_numberOf 11 = .ok (.aload_n 0, 1) := by decide +kernel
theorem dX1_numberOf_12 : decode cX1_numberOf 12 = .ok (.getfield 27, 3) := by decide +kernel
theorem dX1_numberOf_15 : decode cX1_numberOf 15 = .ok (.iload_n 2, 1) := by decide +kernel
theorem dX1_numberOf_16 : decode cX1_numberOf 16 = .ok (.aaload, 1) := by decide +kernel
theorem dX1_numberOf_17 : decode cX1_numberOf 17 = .ok (.aload_n 1, 1) := by decide +kernel
theorem dX1_numberOf_18 : decode cX1_numberOf 18 = .ok (.if_acmp .ne 5, 3) := by decide +kernel
theorem dX1_numberOf_21 : decode cX1_numberOf 21 = .ok (.iload_n 2, 1) := by decide +kernel
theorem dX1_numberOf_22 : decode cX1_numberOf 22 = .ok (.ireturn, 1) := by decide +kernel
theorem dX1_numberOf_23 : decode cX1_numberOf 23 = .ok (.iinc 2 1, 3) := by decide +kernel
theorem dX1_numberOf_26 : decode cX1_numberOf 26 = .ok (.goto (-24), 3) := by decide +kernel
theorem dX1_numberOf_29 : decode cX1_numberOf 29 = .ok (.iconst (-1), 1) := by decide +kernel
theorem dX1_numberOf_30 : decode cX1_numberOf 30 = .ok (.ireturn, 1) := by decide +kernel
set_option maxHeartbeats 4000000 in
set_option maxRecDepth 100000 in
theorem l_X1_numberOf {G : xG} {n a b : Nat} {Q : Outcome → xS → Prop} {J : xJ} {Z : xR} {T : xT} {I : xI} {R : xR} {N B : Nat} (hk : KS Z T N B) {o : Nat} (ho : o < 384) (hq : Q (.returned (some (.int (nI o)))) (I, J, R, Z, T)) (k : Nat) (hn : 1 ≤ n) :
    (k ≤ o) → X G mX1_numberOf n a b Q (I, J, R, Z, T) 2 [(1, .ref (T.ad 0 0)), (1, .ref (T.ad 7 o)), (1, .int (nI k))] [] := by
  induction hm : 384 - k using Nat.strongRecOn generalizing k with
  | _ m_ ih =>
    intro h8
    refine x_iload_n 3 dX1_numberOf_2 rfl rfl ?_
    refine x_aload_n 4 dX1_numberOf_3 rfl rfl ?_
    refine x_getz 7 dX1_numberOf_4 rfl fl_X1_27 (hk.l0 (by omega)) (hk.z0_6 (by omega)) ?_
    refine x_alen 8 dX1_numberOf_7 rfl ar_24 (hk.l24 (by omega)) ?_
    refine x_vi (congrArg nI (hk.n24 (by omega))) ?_
    refine x_icmp_ge 29 11 dX1_numberOf_8 (by decide) rfl (fun c8 => ?_) (fun c8 => ?_)
    · skip
      have c8 : 384 ≤ k := (nI_leI (a := 384) (b := k) (by omega) (by omega)).mp c8
      exact absurd c8 (by omega)
    · skip
      have c8 : ¬ (384 ≤ k) := fun h => c8 ((nI_leI (a := 384) (b := k) (by omega) (by omega)).mpr h)
      refine x_aload_n 12 dX1_numberOf_11 rfl rfl ?_
      refine x_getz 15 dX1_numberOf_12 rfl fl_X1_27 (hk.l0 (by omega)) (hk.z0_6 (by omega)) ?_
      refine x_iload_n 16 dX1_numberOf_15 rfl rfl ?_
      refine x_aldz 17 dX1_numberOf_16 rfl ar_24 rfl (hk.l24 (by omega)) (xb (hk.n24 (by omega)) (by omega) (by omega)) (hk.z24 (by omega)) ?_
      refine x_aload_n 18 dX1_numberOf_17 rfl rfl ?_
      refine x_asR ?_
      refine x_asR2 ?_
      refine x_acmp_ne (c := 7) 23 21 dX1_numberOf_18 (by decide) rfl (fun _ h => by cases h; exact (hk.l7 (by omega))) (fun _ h => by cases h; exact (hk.l7 (by omega))) (fun c18 => ?_) (fun c18 => ?_)
      · skip
        refine x_iinc 26 [(1, .ref (T.ad 0 0)), (1, .ref (T.ad 7 o)), (1, .int (nI (k + 1)))] dX1_numberOf_23 rfl (by decide) rfl (xi_1 k) rfl ?_
        refine x_goto 2 dX1_numberOf_26 (by decide) ?_
        exact ih _ (by rw [← hm]; omega) (k + 1) rfl (by have : k ≠ o := fun e => c18 (by rw [e]); omega)
      · skip
        refine x_iload_n 22 dX1_numberOf_21 rfl rfl ?_
        refine x_ireturn dX1_numberOf_22 rfl ?_
        have e : k = o := Option.some.inj c18
        rw [e]; exact hq
set_option maxHeartbeats 4000000 in
set_option maxRecDepth 100000 in
theorem c_X1_numberOf {G : xG} {n : Nat} {Q : Outcome → xS → Prop} {I : xI} {J : xJ} {R Z : xR} {T : xT} {N B : Nat} (hk : KS Z T N B) {o : Nat} (ho : o < 384) (hn : 1 ≤ n) (hq : Q (.returned (some (.int (nI o)))) (I, J, R, Z, T)) : xCall G mX1_numberOf n [.ref (T.ad 0 0), .ref (T.ad 7 o)] (I, J, R, Z, T) Q := by
  refine x_met (L0 := [(1, .ref (T.ad 0 0)), (1, .ref (T.ad 7 o)), xo]) (by decide +kernel) rfl ⟨Nat.le_of_ble_eq_true rfl, rfl⟩ ?_
  refine x_iconst (v := 0) 1 dX1_numberOf_0 rfl rfl ?_
  refine x_istore_n 2 [(1, .ref (T.ad 0 0)), (1, .ref (T.ad 7 o)), (1, .int 0)] dX1_numberOf_1 rfl (by decide) rfl ?_
  exact l_X1_numberOf hk ho hq 0 hn (by omega)
