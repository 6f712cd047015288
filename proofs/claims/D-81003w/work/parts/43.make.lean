set_option maxRecDepth 100000
/-- the last entry of a path is written; a slot for it -/
noncomputable def kTake (N : Nat) (s : kK) (me : Nat) (tp : Nat → Int32) (fr lg : Nat → Nat) (k d : Nat) : kO × Int32 :=
  if iNamesFor s.1 d (s.1 0 0 21) = 0 then (kRefuse s (-2), 0) else (kAccE N s me tp fr lg k d 1, iFreeSlot (kAccE N s me tp fr lg k d 1).2.1 d)
theorem dX5_take_0 : decode cX5_take 0 = .ok (.aload_n 1, 1) := by decide +kernel
theorem dX5_take_1 : decode cX5_take 1 = .ok (.aload_n 0, 1) := by decide +kernel
theorem dX5_take_2 : decode cX5_take 2 = .ok (.getfield 3, 3) := by decide +kernel
theorem dX5_take_5 : decode cX5_take 5 = .ok (.getfield 119, 3) := by decide +kernel
theorem dX5_take_8 : decode cX5_take 8 = .ok (.invokevirtual 122, 3) := by decide +kernel
theorem dX5_take_11 : decode cX5_take 11 = .ok (.ifCond .ne 16, 3) := by decide +kernel
theorem dX5_take_14 : decode cX5_take 14 = .ok (.aload_n 0, 1) := by decide +kernel
theorem dX5_take_15 : decode cX5_take 15 = .ok (.getfield 3, 3) := by decide +kernel
theorem dX5_take_18 : decode cX5_take 18 = .ok (.getfield 105, 3) := by decide +kernel
theorem dX5_take_21 : decode cX5_take 21 = .ok (.bipush (-2), 2) := by decide +kernel
theorem dX5_take_23 : decode cX5_take 23 = .ok (.invokevirtual 109, 3) := by decide +kernel
theorem dX5_take_26 : decode cX5_take 26 = .ok (.athrow, 1) := by decide +kernel
theorem dX5_take_27 : decode cX5_take 27 = .ok (.aload_n 0, 1) := by decide +kernel
theorem dX5_take_28 : decode cX5_take 28 = .ok (.aload_n 0, 1) := by decide +kernel
theorem dX5_take_29 : decode cX5_take 29 = .ok (.getfield 22, 3) := by decide +kernel
theorem dX5_take_32 : decode cX5_take 32 = .ok (.iconst 1, 1) := by decide +kernel
theorem dX5_take_33 : decode cX5_take 33 = .ok (.isub, 1) := by decide +kernel
theorem dX5_take_34 : decode cX5_take 34 = .ok (.aload_n 1, 1) := by decide +kernel
theorem dX5_take_35 : decode cX5_take 35 = .ok (.iconst 1, 1) := by decide +kernel
theorem dX5_take_36 : decode cX5_take 36 = .ok (.invokevirtual 99, 3) := by decide +kernel
theorem dX5_take_39 : decode cX5_take 39 = .ok (.aload_n 1, 1) := by decide +kernel
theorem dX5_take_40 : decode cX5_take 40 = .ok (.invokevirtual 126, 3) := by decide +kernel
theorem dX5_take_43 : decode cX5_take 43 = .ok (.ireturn, 1) := by decide +kernel
set_option maxHeartbeats 4000000 in
set_option maxRecDepth 100000 in
theorem c_X5_take {G : xG} {n : Nat} {Q : Outcome → xS → Prop} {x : kX} {I : xI} {R : xR} {v : kV} {th : List xTh} {mm : Nat} (hT : KT x v th) (hK : KI (I, R, th) x.N mm) {i st : Nat} (hi : i < 2) {fr lg : Nat → Nat} (hp : PS I i st fr lg) {tp : Nat → Int32} (htp : I 27 0 = tp) {d : Nat} (hd : d < x.N) (h1 : 1 ≤ st) (hmm : mm < 16384) {me : Nat} (hme : R 0 0 19 = some me) (hme16 : me < 16) (hn : 9 ≤ n) (hq : kOut Q x (kTake x.N (I, R, th) me tp fr lg (st - 1) d).1 (some (.int (kTake x.N (I, R, th) me tp fr lg (st - 1) d).2))) : xCall G mX5_take n [.ref (x.ad 4 i), .ref (x.ad 6 d)] (kS I R x v) Q := by
  refine x_met (L0 := [(1, .ref (x.ad 4 i)), (1, .ref (x.ad 6 d))]) (by decide +kernel) rfl ⟨Nat.le_of_ble_eq_true rfl, rfl⟩ ?_
  have hnb := hT.ks.nb
  have hp12 := hp.2.1
  refine x_aload_n 1 dX5_take_0 rfl rfl ?_
  refine x_aload_n 2 dX5_take_1 rfl rfl ?_
  refine x_getz 5 dX5_take_2 rfl fl_X5_3 (hT.ks.l4 (by omega)) (hT.ks.z4_4 (by omega)) ?_
  refine x_geti 8 dX5_take_5 rfl fl_X5_119 (hT.ks.l0 (by omega)) ?_
  refine x_vi (w := I 0 0 21) rfl ?_
  refine x_callV (as := [.int (I 0 0 21)]) (rest := []) (i := d) (n' := n - 1) 11 dX5_take_8 rfl mv_X5_122 rfl rfl (hT.ks.l6 (by omega)) (xnh rfl) (by omega) (xst (Nat.le_of_ble_eq_true rfl)) (c_X7_namesFor hT.ks (by omega) (by omega) ?_)
  change X _ _ _ _ _ _ _ _ _ _
  refine x_vi (w := iNamesFor I d (I 0 0 21)) rfl ?_
  refine x_if_ne 27 14 dX5_take_11 (by decide) rfl (fun c11 => ?_) (fun c11 => ?_)
  · skip
    refine x_aload_n 28 dX5_take_27 rfl rfl ?_
    refine x_aload_n 29 dX5_take_28 rfl rfl ?_
    refine x_geti 32 dX5_take_29 rfl fl_X5_22 (hT.ks.l4 (by omega)) ?_
    refine x_vi (w := I 4 i 2) rfl ?_
    refine x_vi (w := nI st) hp.1 ?_
    refine x_iconst (v := 1) 33 dX5_take_32 rfl rfl ?_
    refine x_isubn st 1 34 dX5_take_33 rfl rfl rfl (by omega) ?_
    refine x_aload_n 35 dX5_take_34 rfl rfl ?_
    refine x_iconst (v := 1) 36 dX5_take_35 rfl rfl ?_
    unfold kTake at hq; rw [if_neg c11] at hq
    refine x_callV (as := [.int (nI (st - 1)), .ref (x.ad 6 d), .int 1]) (rest := []) (i := i) (n' := n - 1) 39 dX5_take_36 rfl mv_X5_99 rfl rfl (hT.ks.l4 (by omega)) (xnh rfl) (by omega) (xst (Nat.le_of_ble_eq_true rfl)) (c_X5_access (w := 1) (k := st - 1) hT hK hi hp htp (by omega) hd hmm hme hme16 (by omega) ⟨?_, ?_⟩)
    · skip
      intro hz v1 hT1
      change X _ _ _ _ _ _ _ _ _ _
      refine x_aload_n 40 dX5_take_39 rfl rfl ?_
      refine x_callV (as := []) (rest := []) (i := d) (n' := n - 1) 43 dX5_take_40 rfl mv_X5_126 rfl rfl (hT1.ks.l6 (by omega)) (xnh rfl) (by omega) (xst (Nat.le_of_ble_eq_true rfl)) (c_X7_freeSlot hT1.ks (by omega) (by omega) ?_)
      change X _ _ _ _ _ _ _ _ _ _
      refine x_vi (w := iFreeSlot (kAccE x.N (I, R, th) me tp fr lg (st - 1) d 1).2.1 d) rfl ?_
      refine x_ireturn dX5_take_43 rfl ?_
      exact hq.1 hz _ hT1
    · skip
      intro hz v1 hT1
      exact hq.2 hz _ hT1
  · skip
    refine x_aload_n 15 dX5_take_14 rfl rfl ?_
    refine x_getz 18 dX5_take_15 rfl fl_X5_3 (hT.ks.l4 (by omega)) (hT.ks.z4_4 (by omega)) ?_
    refine x_getz 21 dX5_take_18 rfl fl_X5_105 (hT.ks.l0 (by omega)) (hT.ks.z0_10 (by omega)) ?_
    refine x_bipush (v := -2) 23 dX5_take_21 rfl rfl ?_
    refine x_callV (as := [.int (-2)]) (rest := []) (i := 0) (n' := n - 1) 26 dX5_take_23 rfl mv_X5_109 rfl rfl (hT.ks.l3 (by omega)) (xnh rfl) (by omega) (xst (Nat.le_of_ble_eq_true rfl)) (c_X4_by hT.ks (by omega) ?_)
    change X _ _ _ _ _ _ _ _ _ _
    refine k_nmA (v := v) (A1 := (xu I 3 0 0 ((-2)))) (by (repeat (first | rw [kI_xu] | rw [kI_xur] | rw [kI_xfil])) <;> rfl) fun I1 hI1 => ?_
    refine x_athrow dX5_take_26 (xnh rfl) ?_
    unfold kTake at hq; rw [if_pos c11] at hq
    rw [hI1]
    exact hq.2 (show ¬ (-2 : Int32) = 0 by decide) _ hT
theorem fst0_step {P : Nat → Prop} {N k : Nat} (h : k < N) {r : Option Nat} (hr : r = fst0 P (k + 1) (N - (k + 1))) : (P k → some k = fst0 P k (N - k)) ∧ (¬ P k → r = fst0 P k (N - k)) := by
  have e : N - k = (N - (k + 1)) + 1 := by omega
  rw [e]
  exact ⟨fun hp => by show _ = @ite _ (P k) (Classical.propDecidable _) (some k) _; rw [if_pos hp], fun hp => by show _ = @ite _ (P k) (Classical.propDecidable _) (some k) _; rw [if_neg hp]; exact hr⟩
theorem dX5_make_0 : decode cX5_make 0 = .ok (.aload_n 0, 1) := by decide +kernel
theorem dX5_make_1 : decode cX5_make 1 = .ok (.aload_n 1, 1) := by decide +kernel
theorem dX5_make_2 : decode cX5_make 2 = .ok (.invokevirtual 138, 3) := by decide +kernel
theorem dX5_make_5 : decode cX5_make 5 = .ok (.istore_n 3, 1) := by decide +kernel
theorem dX5_make_6 : decode cX5_make 6 = .ok (.aconst_null, 1) := by decide +kernel
theorem dX5_make_7 : decode cX5_make 7 = .ok (.astore 4, 2) := by decide +kernel
theorem dX5_make_9 : decode cX5_make 9 = .ok (.aload_n 0, 1) := by decide +kernel
theorem dX5_make_10 : decode cX5_make 10 = .ok (.getfield 3, 3) := by decide +kernel
theorem dX5_make_13 : decode cX5_make 13 = .ok (.getfield 64, 3) := by decide +kernel
theorem dX5_make_16 : decode cX5_make 16 = .ok (.arraylength, 1) := by decide +kernel
theorem dX5_make_17 : decode cX5_make 17 = .ok (.iconst 1, 1) := by decide +kernel
theorem dX5_make_18 : decode cX5_make 18 = .ok (.isub, 1) := by decide +kernel
theorem dX5_make_19 : decode cX5_make 19 = .ok (.istore 5, 2) := by decide +kernel
theorem dX5_make_21 : decode cX5_make 21 = .ok (.iload 5, 2) := by decide +kernel
theorem dX5_make_23 : decode cX5_make 23 = .ok (.ifCond .lt 37, 3) := by decide +kernel
theorem dX5_make_26 : decode cX5_make 26 = .ok (.aload_n 0, 1) := by decide +kernel
theorem dX5_make_27 : decode cX5_make 27 = .ok (.getfield 3, 3) := by decide +kernel
theorem dX5_make_30 : decode cX5_make 30 = .ok (.getfield 64, 3) := by decide +kernel
theorem dX5_make_33 : decode cX5_make 33 = .ok (.iload 5, 2) := by decide +kernel
theorem dX5_make_35 : decode cX5_make 35 = .ok (.aaload, 1) := by decide +kernel
theorem dX5_make_36 : decode cX5_make 36 = .ok (.invokevirtual 142, 3) := by decide +kernel
theorem dX5_make_39 : decode cX5_make 39 = .ok (.ifCond .eq 15, 3) := by decide +kernel
theorem dX5_make_42 : decode cX5_make 42 = .ok (.aload_n 0, 1) := by decide +kernel
theorem dX5_make_43 : decode cX5_make 43 = .ok (.getfield 3, 3) := by decide +kernel
theorem dX5_make_46 : decode cX5_make 46 = .ok (.getfield 64, 3) := by decide +kernel
theorem dX5_make_49 : decode cX5_make 49 = .ok (.iload 5, 2) := by decide +kernel
theorem dX5_make_51 : decode cX5_make 51 = .ok (.aaload, 1) := by decide +kernel
theorem dX5_make_52 : decode cX5_make 52 = .ok (.astore 4, 2) := by decide +kernel
theorem dX5_make_54 : decode cX5_make 54 = .ok (.iinc 5 (-1), 3) := by decide +kernel
theorem dX5_make_57 : decode cX5_make 57 = .ok (.goto (-36), 3) := by decide +kernel
theorem dX5_make_60 : decode cX5_make 60 = .ok (.aload 4, 2) := by decide +kernel
theorem dX5_make_62 : decode cX5_make 62 = .ok (.ifnull 8, 3) := by decide +kernel
theorem dX5_make_65 : decode cX5_make 65 = .ok (.iload_n 3, 1) := by decide +kernel
theorem dX5_make_66 : decode cX5_make 66 = .ok (.iconst (-1), 1) := by decide +kernel
theorem dX5_make_67 : decode cX5_make 67 = .ok (.if_icmp .ne 16, 3) := by decide +kernel
theorem dX5_make_70 : decode cX5_make 70 = .ok (.aload_n 0, 1) := by decide +kernel
theorem dX5_make_71 : decode cX5_make 71 = .ok (.getfield 3, 3) := by decide +kernel
theorem dX5_make_74 : decode cX5_make 74 = .ok (.getfield 105, 3) := by decide +kernel
theorem dX5_make_77 : decode cX5_make 77 = .ok (.bipush (-6), 2) := by decide +kernel
theorem dX5_make_79 : decode cX5_make 79 = .ok (.invokevirtual 109, 3) := by decide +kernel
theorem dX5_make_82 : decode cX5_make 82 = .ok (.athrow, 1) := by decide +kernel
theorem dX5_make_83 : decode cX5_make 83 = .ok (.aload 4, 2) := by decide +kernel
theorem dX5_make_85 : decode cX5_make 85 = .ok (.iload_n 2, 1) := by decide +kernel
theorem dX5_make_86 : decode cX5_make 86 = .ok (.putfield 146, 3) := by decide +kernel
theorem dX5_make_89 : decode cX5_make 89 = .ok (.aload 4, 2) := by decide +kernel
theorem dX5_make_91 : decode cX5_make 91 = .ok (.iconst 1, 1) := by decide +kernel
theorem dX5_make_92 : decode cX5_make 92 = .ok (.putfield 93, 3) := by decide +kernel
theorem dX5_make_95 : decode cX5_make 95 = .ok (.aload 4, 2) := by decide +kernel
theorem dX5_make_97 : decode cX5_make 97 = .ok (.aload_n 1, 1) := by decide +kernel
theorem dX5_make_98 : decode cX5_make 98 = .ok (.getfield 47, 3) := by decide +kernel
theorem dX5_make_101 : decode cX5_make 101 = .ok (.putfield 96, 3) := by decide +kernel
theorem dX5_make_104 : decode cX5_make 104 = .ok (.aload 4, 2) := by decide +kernel
theorem dX5_make_106 : decode cX5_make 106 = .ok (.aload_n 0, 1) := by decide +kernel
theorem dX5_make_107 : decode cX5_make 107 = .ok (.getfield 3, 3) := by decide +kernel
theorem dX5_make_110 : decode cX5_make 110 = .ok (.getfield 119, 3) := by decide +kernel
theorem dX5_make_113 : decode cX5_make 113 = .ok (.putfield 149, 3) := by decide +kernel
theorem dX5_make_116 : decode cX5_make 116 = .ok (.aload_n 0, 1) := by decide +kernel
theorem dX5_make_117 : decode cX5_make 117 = .ok (.aload_n 1, 1) := by decide +kernel
theorem dX5_make_118 : decode cX5_make 118 = .ok (.iload_n 3, 1) := by decide +kernel
theorem dX5_make_119 : decode cX5_make 119 = .ok (.aload 4, 2) := by decide +kernel
theorem dX5_make_121 : decode cX5_make 121 = .ok (.invokevirtual 152, 3) := by decide +kernel
theorem dX5_make_124 : decode cX5_make 124 = .ok (.aload 4, 2) := by decide +kernel
theorem dX5_make_126 : decode cX5_make 126 = .ok (.areturn, 1) := by decide +kernel
set_option maxHeartbeats 4000000 in
set_option maxRecDepth 100000 in
theorem l_X5_make {G : xG} {n a b : Nat} {Q : Outcome → xS → Prop} {x : kX} {I : xI} {R : xR} {v : kV} {th : List xTh} (hT : KT x v th) {i d : Nat} {kd sl : Int32} (hi : i < 2) (hx : X G mX5_make n a b Q (kS I R x v) 60 [(1, .ref (x.ad 4 i)), (1, .ref (x.ad 6 d)), (1, .int kd), (1, .int sl), (1, va_re (x.ad 6) (fst0 (iFree I) 0 x.N)), xo] []) (k : Nat) (f : Option Nat) (hn : 2 ≤ n) :
    (k < x.N) → (f = fst0 (iFree I) (k + 1) (x.N - (k + 1))) → X G mX5_make n a b Q (kS I R x v) 21 [(1, .ref (x.ad 4 i)), (1, .ref (x.ad 6 d)), (1, .int kd), (1, .int sl), (1, va_re (x.ad 6) f), (1, .int (nI k))] [] := by
  induction hm : 2 * k + 3 using Nat.strongRecOn generalizing k f with
  | _ m_ ih =>
    intro hkN hf
    have hnb := hT.ks.nb
    refine x_iload 23 dX5_make_21 rfl rfl ?_
    refine x_if_lt 60 26 dX5_make_23 (by decide) rfl (fun c23 => ?_) (fun c23 => ?_)
    · skip
      rw [nI_lt0 (by omega)] at c23
      exact absurd c23 (by simp)
    · skip
      rw [nI_lt0 (by omega)] at c23
      refine x_aload_n 27 dX5_make_26 rfl rfl ?_
      refine x_getz 30 dX5_make_27 rfl fl_X5_3 (hT.ks.l4 (by omega)) (hT.ks.z4_4 (by omega)) ?_
      refine x_getz 33 dX5_make_30 rfl fl_X5_64 (hT.ks.l0 (by omega)) (hT.ks.z0_5 (by omega)) ?_
      refine x_iload 35 dX5_make_33 rfl rfl ?_
      refine x_aldz 36 dX5_make_35 rfl ar_23 rfl (hT.ks.l23 (by omega)) (xb (hT.ks.n23 (by omega)) (by omega) (by omega)) (hT.ks.z23 (by omega)) ?_
      refine x_callV (as := []) (rest := []) (i := k) (n' := n - 1) 39 dX5_make_36 rfl mv_X5_142 rfl rfl (hT.ks.l6 (by omega)) (xnh rfl) (by omega) (xst (Nat.le_of_ble_eq_true rfl)) (c_X7_isFree hT.ks (by omega) (by omega) ?_)
      change X _ _ _ _ _ _ _ _ _ _
      refine x_vi (w := b2i (iFree I k)) rfl ?_
      refine x_if_eq 54 42 dX5_make_39 (by decide) rfl (fun c39 => ?_) (fun c39 => ?_)
      · skip
        have c39 : ¬ (iFree I k) := b2i_0.mp c39
        have hf1 : f = fst0 (iFree I) k (x.N - k) := (fst0_step hkN hf).2 c39
        by_cases h0 : k = 0
        · refine x_iinc (v := -1) 57 [(1, .ref (x.ad 4 i)), (1, .ref (x.ad 6 d)), (1, .int kd), (1, .int sl), (1, va_re (x.ad 6) f), (1, .int (-1))] dX5_make_54 rfl (by decide) rfl (by rw [h0]; decide) rfl ?_
          refine x_goto 21 dX5_make_57 (by decide) ?_
          refine x_iload 23 dX5_make_21 rfl rfl ?_
          refine x_if_lt 60 26 dX5_make_23 (by decide) rfl (fun _ => ?_) (fun c_ => absurd (by decide) c_)
          rw [hf1, h0]
          refine x_fgt [(1, .ref (x.ad 4 i)), (1, .ref (x.ad 6 d)), (1, .int kd), (1, .int sl), (1, va_re (x.ad 6) (fst0 (iFree I) 0 x.N)), xo] ⟨Or.inr rfl, Or.inr rfl, Or.inr rfl, Or.inr rfl, Or.inr rfl, Or.inl rfl, trivial⟩ ?_
          exact hx
        · refine x_iinc 57 [(1, .ref (x.ad 4 i)), (1, .ref (x.ad 6 d)), (1, .int kd), (1, .int sl), (1, va_re (x.ad 6) f), (1, .int (nI (k - 1)))] dX5_make_54 rfl (by decide) rfl (xi_m1 k (by omega)) rfl ?_
          refine x_goto 21 dX5_make_57 (by decide) ?_
          exact ih _ (by rw [← hm]; omega) (k - 1) (f) rfl (by omega) (by rw [show k - 1 + 1 = k by omega]; exact hf1)
      · skip
        have c39 : iFree I k := b2i_n0.mp c39
        refine x_aload_n 43 dX5_make_42 rfl rfl ?_
        refine x_getz 46 dX5_make_43 rfl fl_X5_3 (hT.ks.l4 (by omega)) (hT.ks.z4_4 (by omega)) ?_
        refine x_getz 49 dX5_make_46 rfl fl_X5_64 (hT.ks.l0 (by omega)) (hT.ks.z0_5 (by omega)) ?_
        refine x_iload 51 dX5_make_49 rfl rfl ?_
        refine x_aldz 52 dX5_make_51 rfl ar_23 rfl (hT.ks.l23 (by omega)) (xb (hT.ks.n23 (by omega)) (by omega) (by omega)) (hT.ks.z23 (by omega)) ?_
        refine x_astore 54 [(1, .ref (x.ad 4 i)), (1, .ref (x.ad 6 d)), (1, .int kd), (1, .int sl), (1, .ref (x.ad 6 k)), (1, .int (nI k))] dX5_make_52 rfl (by decide) rfl ?_
        have hf1 : some k = fst0 (iFree I) k (x.N - k) := (fst0_step hkN hf).1 c39
        by_cases h0 : k = 0
        · refine x_iinc (v := -1) 57 [(1, .ref (x.ad 4 i)), (1, .ref (x.ad 6 d)), (1, .int kd), (1, .int sl), (1, va_re (x.ad 6) (some k)), (1, .int (-1))] dX5_make_54 rfl (by decide) rfl (by rw [h0]; decide) rfl ?_
          refine x_goto 21 dX5_make_57 (by decide) ?_
          refine x_iload 23 dX5_make_21 rfl rfl ?_
          refine x_if_lt 60 26 dX5_make_23 (by decide) rfl (fun _ => ?_) (fun c_ => absurd (by decide) c_)
          rw [hf1, h0]
          refine x_fgt [(1, .ref (x.ad 4 i)), (1, .ref (x.ad 6 d)), (1, .int kd), (1, .int sl), (1, va_re (x.ad 6) (fst0 (iFree I) 0 x.N)), xo] ⟨Or.inr rfl, Or.inr rfl, Or.inr rfl, Or.inr rfl, Or.inr rfl, Or.inl rfl, trivial⟩ ?_
          exact hx
        · refine x_iinc 57 [(1, .ref (x.ad 4 i)), (1, .ref (x.ad 6 d)), (1, .int kd), (1, .int sl), (1, va_re (x.ad 6) (some k)), (1, .int (nI (k - 1)))] dX5_make_54 rfl (by decide) rfl (xi_m1 k (by omega)) rfl ?_
          refine x_goto 21 dX5_make_57 (by decide) ?_
          exact ih _ (by rw [← hm]; omega) (k - 1) (some k) rfl (by omega) (by rw [show k - 1 + 1 = k by omega]; exact hf1)
def kMk (A : xI) (fr lg : Nat → Nat) (k d s f : Nat) (kd : Int32) : xI := pPut (xu (xu (xu (xu A 6 f 1 kd) 6 f 2 1) 6 f 4 (nI d)) 6 f 10 (A 0 0 21)) fr lg k d s f
theorem kI_pPut {A t : xI} {fr lg : Nat → Nat} {k d s f : Nat} : pPut (kI A t) fr lg k d s f = kI (pPut A fr lg k d s f) t := by
  unfold pPut iName; rw [kI_xfil (c := 43) rfl, kI_xu (c := 41) rfl, kI_xu (c := 42) rfl]; rfl
/-- something new is made at a path's end -/
noncomputable def kMake (N : Nat) (s : kK) (me : Nat) (tp : Nat → Int32) (fr lg : Nat → Nat) (k d : Nat) (kd : Int32) : kO × Nat :=
  if (kTake N s me tp fr lg k d).1.1 = 0 then
    (match fst0 (iFree (kTake N s me tp fr lg k d).1.2.1) 0 N with
      | none => (kRefuse (kTake N s me tp fr lg k d).1.2 (-6), 0)
      | some f => if (kTake N s me tp fr lg k d).2 = -1 then (kRefuse (kTake N s me tp fr lg k d).1.2 (-6), 0)
        else ((0, (kMk (kTake N s me tp fr lg k d).1.2.1 fr lg k d (iN (kTake N s me tp fr lg k d).2) f kd, (kTake N s me tp fr lg k d).1.2.2.1, (kTake N s me tp fr lg k d).1.2.2.2)), f))
  else ((kTake N s me tp fr lg k d).1, 0)
theorem KI.take {s : kK} {N m me k d : Nat} {tp : Nat → Int32} {fr lg : Nat → Nat} (h : KI s N m) (hd : d < 1000) : KI (kTake N s me tp fr lg k d).1.2 N (m + 1) ∧ kSx s (kTake N s me tp fr lg k d).1.2 := by
  unfold kTake
  split
  · exact ⟨h.ref.le (Nat.le_succ m), sx_ref⟩
  · unfold kAccE; exact ⟨h.access (hoaN (g := 2) (by omega) kOf2), sx_access⟩
theorem kTake_s {s : kK} {N me k d : Nat} {tp : Nat → Int32} {fr lg : Nat → Nat} (hz : (kTake N s me tp fr lg k d).1.1 = 0) (hn : ¬ (kTake N s me tp fr lg k d).2 = -1) : ∃ q, q < 512 ∧ (kTake N s me tp fr lg k d).2 = nI q := by
  unfold kTake at hz hn ⊢
  split at hz
  · exact absurd (show (-2 : Int32) = 0 from hz) (by decide)
  · next e =>
    rw [if_neg e] at hn ⊢
    rcases fstI_cases (fun q => (kAccE N s me tp fr lg k d 1).2.1 40 d q = 0 ∧ (kAccE N s me tp fr lg k d 1).2.1 41 d q = 0) 512 with ⟨h1, _⟩ | ⟨q, h1, _, h3, _⟩
    · exact absurd h1 hn
    · exact ⟨q, h1, h3⟩
theorem kOutI {Q : Outcome → xS → Prop} {x : kX} {r t : kO × Int32} (h : r = t) (k : kOut Q x r.1 (some (.int r.2))) : kOut Q x t.1 (some (.int t.2)) := by rw [← h]; exact k
set_option maxHeartbeats 4000000 in
set_option maxRecDepth 100000 in
theorem c_X5_make {G : xG} {n : Nat} {Q : Outcome → xS → Prop} {x : kX} {I : xI} {R : xR} {v : kV} {th : List xTh} {mm : Nat} (hT : KT x v th) (hK : KI (I, R, th) x.N mm) {i st : Nat} (hi : i < 2) {fr lg : Nat → Nat} (hp : PS I i st fr lg) {tp : Nat → Int32} (htp : I 27 0 = tp) {d : Nat} (hd : d < x.N) (h1 : 1 ≤ st) (hmm : mm < 16384) {me : Nat} (hme : R 0 0 19 = some me) (hme16 : me < 16) {kd : Int32} (hn : 10 ≤ n) (hq : kOut Q x (kMake x.N (I, R, th) me tp fr lg (st - 1) d kd).1 (some (.ref (x.ad 6 (kMake x.N (I, R, th) me tp fr lg (st - 1) d kd).2)))) : xCall G mX5_make n [.ref (x.ad 4 i), .ref (x.ad 6 d), .int kd] (kS I R x v) Q := by
  refine x_met (L0 := [(1, .ref (x.ad 4 i)), (1, .ref (x.ad 6 d)), (1, .int kd), xo, xo, xo]) (by decide +kernel) rfl ⟨Nat.le_of_ble_eq_true rfl, rfl⟩ ?_
  have hnb := hT.ks.nb
  have hp12 := hp.2.1
  refine x_aload_n 1 dX5_make_0 rfl rfl ?_
  refine x_aload_n 2 dX5_make_1 rfl rfl ?_
  obtain ⟨t_, ht_⟩ : ∃ t_ : kO × Int32, t_ = kTake x.N (I, R, th) me tp fr lg (st - 1) d := ⟨_, rfl⟩
  have hKS := KI.take (me := me) (tp := tp) (fr := fr) (lg := lg) (k := st - 1) (d := d) hK (by omega)
  rw [← ht_] at hKS
  obtain ⟨hKt, hSt⟩ := hKS
  refine x_callV (as := [.ref (x.ad 6 d)]) (rest := []) (i := i) (n' := n - 1) 5 dX5_make_2 rfl mv_X5_138 rfl rfl (hT.ks.l4 (by omega)) (xnh rfl) (by omega) (xst (Nat.le_of_ble_eq_true rfl)) (c_X5_take hT hK hi hp htp hd h1 hmm hme hme16 (by omega) (kOutI ht_ ⟨?_, ?_⟩))
  · skip
    intro hz w1 hU1
    change X _ _ _ _ _ _ _ _ _ _
    refine x_nmi fun x1 hx1 => ?_
    refine x_istore_n 6 [(1, .ref (x.ad 4 i)), (1, .ref (x.ad 6 d)), (1, .int kd), (1, .int x1), xo, xo] dX5_make_5 rfl (by decide) rfl ?_
    refine x_null 7 dX5_make_6 rfl ?_
    refine x_asN (x.ad 6) ?_
    refine x_astore_r 9 [(1, .ref (x.ad 4 i)), (1, .ref (x.ad 6 d)), (1, .int kd), (1, .int x1), (1, va_re (x.ad 6) none), xo] dX5_make_7 rfl (by decide) rfl ?_
    refine x_aload_n 10 dX5_make_9 rfl rfl ?_
    refine x_getz 13 dX5_make_10 rfl fl_X5_3 (hU1.ks.l4 (by omega)) (hU1.ks.z4_4 (by omega)) ?_
    refine x_getz 16 dX5_make_13 rfl fl_X5_64 (hU1.ks.l0 (by omega)) (hU1.ks.z0_5 (by omega)) ?_
    refine x_alen 17 dX5_make_16 rfl ar_23 (hU1.ks.l23 (by omega)) ?_
    refine x_vi (congrArg nI (hU1.ks.n23 (by omega))) ?_
    refine x_iconst (v := 1) 18 dX5_make_17 rfl rfl ?_
    refine x_isubn x.N 1 19 dX5_make_18 rfl rfl rfl (by omega) ?_
    refine x_istore 21 [(1, .ref (x.ad 4 i)), (1, .ref (x.ad 6 d)), (1, .int kd), (1, .int x1), (1, va_re (x.ad 6) none), (1, .int (nI (x.N - 1)))] dX5_make_19 rfl (by decide) rfl ?_
    refine l_X5_make hU1 hi ?_ (x.N - 1) none (by omega) (by omega) (by rw [show x.N - (x.N - 1 + 1) = 0 by omega]; rfl)
    refine x_aload_r 62 dX5_make_60 rfl rfl ?_
    refine x_ifnull 70 65 dX5_make_62 (by decide) rfl (fun c62 => ?_) (fun j1 c62 => ?_)
    · skip
      refine x_aload_n 71 dX5_make_70 rfl rfl ?_
      refine x_getz 74 dX5_make_71 rfl fl_X5_3 (hU1.ks.l4 (by omega)) (hU1.ks.z4_4 (by omega)) ?_
      refine x_getz 77 dX5_make_74 rfl fl_X5_105 (hU1.ks.l0 (by omega)) (hU1.ks.z0_10 (by omega)) ?_
      refine x_bipush (v := -6) 79 dX5_make_77 rfl rfl ?_
      refine x_callV (as := [.int (-6)]) (rest := []) (i := 0) (n' := n - 1) 82 dX5_make_79 rfl mv_X5_109 rfl rfl (hU1.ks.l3 (by omega)) (xnh rfl) (by omega) (xst (Nat.le_of_ble_eq_true rfl)) (c_X4_by hU1.ks (by omega) ?_)
      change X _ _ _ _ _ _ _ _ _ _
      refine k_nmA (v := w1) (A1 := (xu t_.1.2.1 3 0 0 ((-6)))) (by (repeat (first | rw [kI_xu] | rw [kI_xur] | rw [kI_xfil])) <;> rfl) fun I1 hI1 => ?_
      refine x_athrow dX5_make_82 (xnh rfl) ?_
      unfold kMake at hq; rw [← ht_] at hq
      rw [if_pos hz, c62] at hq
      dsimp only at hq
      rw [hI1]
      exact hq.2 (show ¬ (-6 : Int32) = 0 by decide) _ hU1
    · skip
      refine x_iload_n 66 dX5_make_65 rfl rfl ?_
      refine x_iconst (v := -1) 67 dX5_make_66 rfl rfl ?_
      refine x_icmp_ne 83 70 dX5_make_67 (by decide) rfl (fun c67 => ?_) (fun c67 => ?_)
      · skip
        obtain ⟨s_, hs1, hs2⟩ := kTake_s (by rw [← ht_]; exact hz) (by rw [← ht_, ← hx1]; exact c67)
        rw [← ht_, ← hx1] at hs2
        subst hs2
        have hfl := (fst0_spec x.N 0 j1 c62).2.1
        refine x_aload_r 85 dX5_make_83 rfl rfl ?_
        refine x_some c62 ?_
        refine x_iload_n 86 dX5_make_85 rfl rfl ?_
        refine x_puti 89 dX5_make_86 rfl fl_X5_146 rfl rfl (hU1.ks.l6 (by omega)) ?_
        refine k_nmA (v := w1) (kI_xu (c := 6) rfl) fun I1 hI1 => ?_
        refine x_aload_r 91 dX5_make_89 rfl rfl ?_
        refine x_some c62 ?_
        refine x_iconst (v := 1) 92 dX5_make_91 rfl rfl ?_
        refine x_puti 95 dX5_make_92 rfl fl_X5_93 rfl rfl (hU1.ks.l6 (by omega)) ?_
        refine k_nmA (v := w1) (kI_xu (c := 6) rfl) fun I2 hI2 => ?_
        have hF2 : kFx t_.1.2.1 I2 := by rw [hI2, hI1]; exact (kFx.rfl.u rfl).u rfl
        refine x_aload_r 97 dX5_make_95 rfl rfl ?_
        refine x_some c62 ?_
        refine x_aload_n 98 dX5_make_97 rfl rfl ?_
        refine x_geti 101 dX5_make_98 rfl fl_X5_47 (hU1.ks.l6 (by omega)) ?_
        refine x_vi (w := I2 6 d 0) rfl ?_
        refine x_vi (w := nI d) ((hKt.nm.fx hF2).1 d hd) ?_
        refine x_puti 104 dX5_make_101 rfl fl_X5_96 rfl rfl (hU1.ks.l6 (by omega)) ?_
        refine k_nmA (v := w1) (kI_xu (c := 6) rfl) fun I3 hI3 => ?_
        refine x_aload_r 106 dX5_make_104 rfl rfl ?_
        refine x_some c62 ?_
        refine x_aload_n 107 dX5_make_106 rfl rfl ?_
        refine x_getz 110 dX5_make_107 rfl fl_X5_3 (hU1.ks.l4 (by omega)) (hU1.ks.z4_4 (by omega)) ?_
        refine x_geti 113 dX5_make_110 rfl fl_X5_119 (hU1.ks.l0 (by omega)) ?_
        refine x_vi (w := I3 0 0 21) rfl ?_
        refine x_puti 116 dX5_make_113 rfl fl_X5_149 rfl rfl (hU1.ks.l6 (by omega)) ?_
        refine k_nmA (v := w1) (kI_xu (c := 6) rfl) fun I4 hI4 => ?_
        have hF4 : kFx t_.1.2.1 I4 := by rw [hI4, hI3]; exact (hF2.u rfl).u rfl
        refine x_aload_n 117 dX5_make_116 rfl rfl ?_
        refine x_aload_n 118 dX5_make_117 rfl rfl ?_
        refine x_iload_n 119 dX5_make_118 rfl rfl ?_
        refine x_aload_r 121 dX5_make_119 rfl rfl ?_
        refine x_some c62 ?_
        refine x_callV (as := [.ref (x.ad 6 d), .int (nI s_), .ref (x.ad 6 j1)]) (rest := []) (i := i) (n' := n - 1) 124 dX5_make_121 rfl mv_X5_152 rfl rfl (hU1.ks.l4 (by omega)) (xnh rfl) (by omega) (xst (Nat.le_of_ble_eq_true rfl)) (c_X5_put (I := kI I4 w1.t) hU1.ks (by omega) (show PS I4 i st fr lg from hp.fx (hSt.1.trans hF4)) (by omega) (by omega) (by omega) (by omega) ((hKt.nm.fx hF4).1 j1 (by omega)) (by omega) ?_)
        change X _ _ _ _ _ _ _ _ _ _
        refine k_nmA (v := w1) (A1 := (pPut I4 fr lg (st - 1) d s_ j1)) kI_pPut fun I5 hI5 => ?_
        refine x_aload_r 126 dX5_make_124 rfl rfl ?_
        refine x_some c62 ?_
        refine x_areturn dX5_make_126 rfl (Or.inl ⟨_, rfl⟩) ?_
        unfold kMake at hq; rw [← ht_] at hq
        rw [if_pos hz, c62] at hq
        dsimp only at hq
        rw [if_neg (by rw [← hx1]; exact c67), ← hx1, iN_nI (by omega)] at hq
        have e5 : I5 = kMk t_.1.2.1 fr lg (st - 1) d s_ j1 kd := by rw [hI5, hI4, hI3, hI2, hI1]; unfold kMk; rw [xu_c (c := 6) (by decide), xu_c (c := 6) (by decide), xu_c (c := 6) (by decide)]
        rw [e5]
        exact hq.1 rfl _ hU1
      · skip
        refine x_aload_n 71 dX5_make_70 rfl rfl ?_
        refine x_getz 74 dX5_make_71 rfl fl_X5_3 (hU1.ks.l4 (by omega)) (hU1.ks.z4_4 (by omega)) ?_
        refine x_getz 77 dX5_make_74 rfl fl_X5_105 (hU1.ks.l0 (by omega)) (hU1.ks.z0_10 (by omega)) ?_
        refine x_bipush (v := -6) 79 dX5_make_77 rfl rfl ?_
        refine x_callV (as := [.int (-6)]) (rest := []) (i := 0) (n' := n - 1) 82 dX5_make_79 rfl mv_X5_109 rfl rfl (hU1.ks.l3 (by omega)) (xnh rfl) (by omega) (xst (Nat.le_of_ble_eq_true rfl)) (c_X4_by hU1.ks (by omega) ?_)
        change X _ _ _ _ _ _ _ _ _ _
        refine k_nmA (v := w1) (A1 := (xu t_.1.2.1 3 0 0 ((-6)))) (by (repeat (first | rw [kI_xu] | rw [kI_xur] | rw [kI_xfil])) <;> rfl) fun I1 hI1 => ?_
        refine x_athrow dX5_make_82 (xnh rfl) ?_
        unfold kMake at hq; rw [← ht_] at hq
        rw [if_pos hz, c62] at hq
        dsimp only at hq
        rw [if_pos (by rw [← hx1]; exact c67)] at hq
        rw [hI1]
        exact hq.2 (show ¬ (-6 : Int32) = 0 by decide) _ hU1
  · skip
    intro hz w1 hU1
    unfold kMake at hq; rw [← ht_] at hq
    rw [if_neg hz] at hq
    exact hq.2 hz _ hU1
