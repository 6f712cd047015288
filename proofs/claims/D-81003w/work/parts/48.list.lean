set_option maxRecDepth 100000
/-! lists of names -/
noncomputable def iBefK (I : xI) (d a b : Nat) : Nat := (fst0 (fun k => ¬ I 43 d (14 * a + k) = I 43 d (14 * b + k)) 0 13).getD 13
/-- the name of slot a comes ahead of that of slot b -/
noncomputable def iBef (I : xI) (d a b : Nat) : Prop := I 43 d (14 * a + iBefK I d a b) &&& 255 < I 43 d (14 * b + iBefK I d a b) &&& 255
theorem iBefK_d {I : xI} {d a b k : Nat} (hk : k < 13) (h : ¬ I 43 d (14 * a + k) = I 43 d (14 * b + k)) (hv : ∀ j, j < k → I 43 d (14 * a + j) = I 43 d (14 * b + j)) : iBefK I d a b = k := by
  unfold iBefK; rw [fst0_some 13 0 k (by omega) (by omega) h (fun j _ hj => by rw [hv j hj]; simp)]; rfl
theorem iBefK_e {I : xI} {d a b : Nat} (hv : ∀ j, j < 13 → I 43 d (14 * a + j) = I 43 d (14 * b + j)) : iBefK I d a b = 13 := by
  unfold iBefK; rw [fst0_none 13 0 (fun j _ hj => by rw [hv j (by omega)]; simp)]; rfl
/-- a number, or none: -1 -/
def oI : Option Nat → Int32
  | none => -1
  | some k => nI k
theorem dX1_isBefore_0 : decode cX1_isBefore 0 = .ok (.iconst 0, 1) := by decide +kernel
theorem dX1_isBefore_1 : decode cX1_isBefore 1 = .ok (.istore 4, 2) := by decide +kernel
theorem dX1_isBefore_3 : decode cX1_isBefore 3 = .ok (.iload 4, 2) := by decide +kernel
theorem dX1_isBefore_5 : decode cX1_isBefore 5 = .ok (.bipush 13, 2) := by decide +kernel
theorem dX1_isBefore_7 : decode cX1_isBefore 7 = .ok (.if_icmp .ge 36, 3) := by decide +kernel
theorem dX1_isBefore_10 : decode cX1_isBefore 10 = .ok (.aload_n 1, 1) := by decide +kernel
theorem dX1_isBefore_11 : decode cX1_isBefore 11 = .ok (.getfield 457, 3) := by decide +kernel
theorem dX1_isBefore_14 : decode cX1_isBefore 14 = .ok (.bipush 14, 2) := by decide +kernel
theorem dX1_isBefore_16 : decode cX1_isBefore 16 = .ok (.iload_n 2, 1) := by decide +kernel
theorem dX1_isBefore_17 : decode cX1_isBefore 17 = .ok (.imul, 1) := by decide +kernel
theorem dX1_isBefore_18 : decode cX1_isBefore 18 = .ok (.iload 4, 2) := by decide +kernel
theorem dX1_isBefore_20 : decode cX1_isBefore 20 = .ok (.iadd, 1) := by decide +kernel
theorem dX1_isBefore_21 : decode cX1_isBefore 21 = .ok (.baload, 1) := by decide +kernel
theorem dX1_isBefore_22 : decode cX1_isBefore 22 = .ok (.aload_n 1, 1) := by decide +kernel
theorem dX1_isBefore_23 : decode cX1_isBefore 23 = .ok (.getfield 457, 3) := by decide +kernel
theorem dX1_isBefore_26 : decode cX1_isBefore 26 = .ok (.bipush 14, 2) := by decide +kernel
theorem dX1_isBefore_28 : decode cX1_isBefore 28 = .ok (.iload_n 3, 1) := by decide +kernel
theorem dX1_isBefore_29 : decode cX1_isBefore 29 = .ok (.imul, 1) := by decide +kernel
theorem dX1_isBefore_30 : decode cX1_isBefore 30 = .ok (.iload 4, 2) := by decide +kernel
theorem dX1_isBefore_32 : decode cX1_isBefore 32 = .ok (.iadd, 1) := by decide +kernel
theorem dX1_isBefore_33 : decode cX1_isBefore 33 = .ok (.baload, 1) := by decide +kernel
theorem dX1_isBefore_34 : decode cX1_isBefore 34 = .ok (.if_icmp .ne 9, 3) := by decide +kernel
theorem dX1_isBefore_37 : decode cX1_isBefore 37 = .ok (.iinc 4 1, 3) := by decide +kernel
theorem dX1_isBefore_40 : decode cX1_isBefore 40 = .ok (.goto (-37), 3) := by decide +kernel
theorem dX1_isBefore_43 : decode cX1_isBefore 43 = .ok (.aload_n 1, 1) := by decide +kernel
theorem dX1_isBefore_44 : decode cX1_isBefore 44 = .ok (.getfield 457, 3) := by decide +kernel
theorem dX1_isBefore_47 : decode cX1_isBefore 47 = .ok (.bipush 14, 2) := by decide +kernel
theorem dX1_isBefore_49 : decode cX1_isBefore 49 = .ok (.iload_n 2, 1) := by decide +kernel
theorem dX1_isBefore_50 : decode cX1_isBefore 50 = .ok (.imul, 1) := by decide +kernel
theorem dX1_isBefore_51 : decode cX1_isBefore 51 = .ok (.iload 4, 2) := by decide +kernel
theorem dX1_isBefore_53 : decode cX1_isBefore 53 = .ok (.iadd, 1) := by decide +kernel
theorem dX1_isBefore_54 : decode cX1_isBefore 54 = .ok (.baload, 1) := by decide +kernel
theorem dX1_isBefore_55 : decode cX1_isBefore 55 = .ok (.sipush 255, 3) := by decide +kernel
theorem dX1_isBefore_58 : decode cX1_isBefore 58 = .ok (.iand, 1) := by decide +kernel
theorem dX1_isBefore_59 : decode cX1_isBefore 59 = .ok (.aload_n 1, 1) := by decide +kernel
theorem dX1_isBefore_60 : decode cX1_isBefore 60 = .ok (.getfield 457, 3) := by decide +kernel
theorem dX1_isBefore_63 : decode cX1_isBefore 63 = .ok (.bipush 14, 2) := by decide +kernel
theorem dX1_isBefore_65 : decode cX1_isBefore 65 = .ok (.iload_n 3, 1) := by decide +kernel
theorem dX1_isBefore_66 : decode cX1_isBefore 66 = .ok (.imul, 1) := by decide +kernel
theorem dX1_isBefore_67 : decode cX1_isBefore 67 = .ok (.iload 4, 2) := by decide +kernel
theorem dX1_isBefore_69 : decode cX1_isBefore 69 = .ok (.iadd, 1) := by decide +kernel
theorem dX1_isBefore_70 : decode cX1_isBefore 70 = .ok (.baload, 1) := by decide +kernel
theorem dX1_isBefore_71 : decode cX1_isBefore 71 = .ok (.sipush 255, 3) := by decide +kernel
theorem dX1_isBefore_74 : decode cX1_isBefore 74 = .ok (.iand, 1) := by decide +kernel
theorem dX1_isBefore_75 : decode cX1_isBefore 75 = .ok (.if_icmp .ge 7, 3) := by decide +kernel
theorem dX1_isBefore_78 : decode cX1_isBefore 78 = .ok (.iconst 1, 1) := by decide +kernel
theorem dX1_isBefore_79 : decode cX1_isBefore 79 = .ok (.goto 4, 3) := by decide +kernel
theorem dX1_isBefore_82 : decode cX1_isBefore 82 = .ok (.iconst 0, 1) := by decide +kernel
theorem dX1_isBefore_83 : decode cX1_isBefore 83 = .ok (.ireturn, 1) := by decide +kernel
set_option maxHeartbeats 4000000 in
set_option maxRecDepth 100000 in
theorem l_X1_isBefore {G : xG} {n a b : Nat} {Q : Outcome → xS → Prop} {J : xJ} {Z : xR} {T : xT} {R : xR} {I : xI} {N B : Nat} (hk : KS Z T N B) {d p q : Nat} (hd : d < N) (hp : p < 512) (hq5 : q < 512) (hq : Q (.returned (some (.int (b2i (iBef I d p q))))) (I, J, R, Z, T)) (k : Nat) (hn : 1 ≤ n) :
    (k ≤ 13) → (∀ j, j < k → I 43 d (14 * p + j) = I 43 d (14 * q + j)) → X G mX1_isBefore n a b Q (I, J, R, Z, T) 3 [(1, .ref (T.ad 0 0)), (1, .ref (T.ad 6 d)), (1, .int (nI p)), (1, .int (nI q)), (1, .int (nI k))] [] := by
  induction hm : 13 - k using Nat.strongRecOn generalizing k with
  | _ m_ ih =>
    intro h8 hv
    refine x_iload 5 dX1_isBefore_3 rfl rfl ?_
    refine x_bipush (v := 13) 7 dX1_isBefore_5 rfl rfl ?_
    refine x_icmp_ge 43 10 dX1_isBefore_7 (by decide) rfl (fun c7 => ?_) (fun c7 => ?_)
    · skip
      have c7 : 13 ≤ k := (nI_leI (a := 13) (b := k) (by omega) (by omega)).mp c7
      refine x_aload_n 44 dX1_isBefore_43 rfl rfl ?_
      refine x_getz 47 dX1_isBefore_44 rfl fl_X1_457 (hk.l6 (by omega)) (hk.z6_29 (by omega)) ?_
      refine x_bipush (v := 14) 49 dX1_isBefore_47 rfl rfl ?_
      refine x_iload_n 50 dX1_isBefore_49 rfl rfl ?_
      refine x_imuln 14 p 51 dX1_isBefore_50 rfl rfl rfl ?_
      refine x_iload 53 dX1_isBefore_51 rfl rfl ?_
      refine x_iaddn (14 * p) k 54 dX1_isBefore_53 rfl rfl rfl ?_
      refine x_bald 55 dX1_isBefore_54 rfl ar_43 (hk.l43 (by omega)) (xb (hk.n43 (by omega)) (by omega) (by omega)) ?_
      refine x_sipush (v := 255) 58 dX1_isBefore_55 rfl rfl ?_
      refine x_iand 59 dX1_isBefore_58 rfl ?_
      refine x_aload_n 60 dX1_isBefore_59 rfl rfl ?_
      refine x_getz 63 dX1_isBefore_60 rfl fl_X1_457 (hk.l6 (by omega)) (hk.z6_29 (by omega)) ?_
      refine x_bipush (v := 14) 65 dX1_isBefore_63 rfl rfl ?_
      refine x_iload_n 66 dX1_isBefore_65 rfl rfl ?_
      refine x_imuln 14 q 67 dX1_isBefore_66 rfl rfl rfl ?_
      refine x_iload 69 dX1_isBefore_67 rfl rfl ?_
      refine x_iaddn (14 * q) k 70 dX1_isBefore_69 rfl rfl rfl ?_
      refine x_bald 71 dX1_isBefore_70 rfl ar_43 (hk.l43 (by omega)) (xb (hk.n43 (by omega)) (by omega) (by omega)) ?_
      refine x_sipush (v := 255) 74 dX1_isBefore_71 rfl rfl ?_
      refine x_iand 75 dX1_isBefore_74 rfl ?_
      refine x_icmp_ge 82 78 dX1_isBefore_75 (by decide) rfl (fun c75 => ?_) (fun c75 => ?_)
      · skip
        refine x_iconst (v := 0) 83 dX1_isBefore_82 rfl rfl ?_
        refine x_zreturn dX1_isBefore_83 rfl (Or.inl rfl) ?_
        have e_ : iBefK I d p q = k := by first | exact iBefK_d (by omega) c34 hv | (have e13 : k = 13 := (by omega); subst e13; exact iBefK_e hv)
        exact xr0 (P := iBef I d p q) (by unfold iBef; rw [e_]; simpa using c75) hq
      · skip
        refine x_iconst (v := 1) 79 dX1_isBefore_78 rfl rfl ?_
        refine x_goto 83 dX1_isBefore_79 (by decide) ?_
        refine x_zreturn dX1_isBefore_83 rfl (Or.inr rfl) ?_
        have e_ : iBefK I d p q = k := by first | exact iBefK_d (by omega) c34 hv | (have e13 : k = 13 := (by omega); subst e13; exact iBefK_e hv)
        exact xr1 (P := iBef I d p q) (by unfold iBef; rw [e_]; simpa using c75) hq
    · skip
      have c7 : ¬ (13 ≤ k) := fun h => c7 ((nI_leI (a := 13) (b := k) (by omega) (by omega)).mpr h)
      refine x_aload_n 11 dX1_isBefore_10 rfl rfl ?_
      refine x_getz 14 dX1_isBefore_11 rfl fl_X1_457 (hk.l6 (by omega)) (hk.z6_29 (by omega)) ?_
      refine x_bipush (v := 14) 16 dX1_isBefore_14 rfl rfl ?_
      refine x_iload_n 17 dX1_isBefore_16 rfl rfl ?_
      refine x_imuln 14 p 18 dX1_isBefore_17 rfl rfl rfl ?_
      refine x_iload 20 dX1_isBefore_18 rfl rfl ?_
      refine x_iaddn (14 * p) k 21 dX1_isBefore_20 rfl rfl rfl ?_
      refine x_bald 22 dX1_isBefore_21 rfl ar_43 (hk.l43 (by omega)) (xb (hk.n43 (by omega)) (by omega) (by omega)) ?_
      refine x_aload_n 23 dX1_isBefore_22 rfl rfl ?_
      refine x_getz 26 dX1_isBefore_23 rfl fl_X1_457 (hk.l6 (by omega)) (hk.z6_29 (by omega)) ?_
      refine x_bipush (v := 14) 28 dX1_isBefore_26 rfl rfl ?_
      refine x_iload_n 29 dX1_isBefore_28 rfl rfl ?_
      refine x_imuln 14 q 30 dX1_isBefore_29 rfl rfl rfl ?_
      refine x_iload 32 dX1_isBefore_30 rfl rfl ?_
      refine x_iaddn (14 * q) k 33 dX1_isBefore_32 rfl rfl rfl ?_
      refine x_bald 34 dX1_isBefore_33 rfl ar_43 (hk.l43 (by omega)) (xb (hk.n43 (by omega)) (by omega) (by omega)) ?_
      refine x_icmp_ne 43 37 dX1_isBefore_34 (by decide) rfl (fun c34 => ?_) (fun c34 => ?_)
      · skip
        refine x_aload_n 44 dX1_isBefore_43 rfl rfl ?_
        refine x_getz 47 dX1_isBefore_44 rfl fl_X1_457 (hk.l6 (by omega)) (hk.z6_29 (by omega)) ?_
        refine x_bipush (v := 14) 49 dX1_isBefore_47 rfl rfl ?_
        refine x_iload_n 50 dX1_isBefore_49 rfl rfl ?_
        refine x_imuln 14 p 51 dX1_isBefore_50 rfl rfl rfl ?_
        refine x_iload 53 dX1_isBefore_51 rfl rfl ?_
        refine x_iaddn (14 * p) k 54 dX1_isBefore_53 rfl rfl rfl ?_
        refine x_bald 55 dX1_isBefore_54 rfl ar_43 (hk.l43 (by omega)) (xb (hk.n43 (by omega)) (by omega) (by omega)) ?_
        refine x_sipush (v := 255) 58 dX1_isBefore_55 rfl rfl ?_
        refine x_iand 59 dX1_isBefore_58 rfl ?_
        refine x_aload_n 60 dX1_isBefore_59 rfl rfl ?_
        refine x_getz 63 dX1_isBefore_60 rfl fl_X1_457 (hk.l6 (by omega)) (hk.z6_29 (by omega)) ?_
        refine x_bipush (v := 14) 65 dX1_isBefore_63 rfl rfl ?_
        refine x_iload_n 66 dX1_isBefore_65 rfl rfl ?_
        refine x_imuln 14 q 67 dX1_isBefore_66 rfl rfl rfl ?_
        refine x_iload 69 dX1_isBefore_67 rfl rfl ?_
        refine x_iaddn (14 * q) k 70 dX1_isBefore_69 rfl rfl rfl ?_
        refine x_bald 71 dX1_isBefore_70 rfl ar_43 (hk.l43 (by omega)) (xb (hk.n43 (by omega)) (by omega) (by omega)) ?_
        refine x_sipush (v := 255) 74 dX1_isBefore_71 rfl rfl ?_
        refine x_iand 75 dX1_isBefore_74 rfl ?_
        refine x_icmp_ge 82 78 dX1_isBefore_75 (by decide) rfl (fun c75 => ?_) (fun c75 => ?_)
        · skip
          refine x_iconst (v := 0) 83 dX1_isBefore_82 rfl rfl ?_
          refine x_zreturn dX1_isBefore_83 rfl (Or.inl rfl) ?_
          have e_ : iBefK I d p q = k := by first | exact iBefK_d (by omega) c34 hv | (have e13 : k = 13 := (by omega); subst e13; exact iBefK_e hv)
          exact xr0 (P := iBef I d p q) (by unfold iBef; rw [e_]; simpa using c75) hq
        · skip
          refine x_iconst (v := 1) 79 dX1_isBefore_78 rfl rfl ?_
          refine x_goto 83 dX1_isBefore_79 (by decide) ?_
          refine x_zreturn dX1_isBefore_83 rfl (Or.inr rfl) ?_
          have e_ : iBefK I d p q = k := by first | exact iBefK_d (by omega) c34 hv | (have e13 : k = 13 := (by omega); subst e13; exact iBefK_e hv)
          exact xr1 (P := iBef I d p q) (by unfold iBef; rw [e_]; simpa using c75) hq
      · skip
        refine x_iinc 40 [(1, .ref (T.ad 0 0)), (1, .ref (T.ad 6 d)), (1, .int (nI p)), (1, .int (nI q)), (1, .int (nI (k + 1)))] dX1_isBefore_37 rfl (by decide) rfl (xi_1 k) rfl ?_
        refine x_goto 3 dX1_isBefore_40 (by decide) ?_
        exact ih _ (by rw [← hm]; omega) (k + 1) rfl (by omega) (lt_succ_of (P := fun j => I 43 d (14 * p + j) = I 43 d (14 * q + j)) hv c34)
set_option maxHeartbeats 4000000 in
set_option maxRecDepth 100000 in
theorem c_X1_isBefore {G : xG} {n : Nat} {Q : Outcome → xS → Prop} {I : xI} {J : xJ} {R Z : xR} {T : xT} {N B : Nat} (hk : KS Z T N B) {d p q : Nat} (hd : d < N) (hp : p < 512) (hq5 : q < 512) (hn : 1 ≤ n) (hq : Q (.returned (some (.int (b2i (iBef I d p q))))) (I, J, R, Z, T)) : xCall G mX1_isBefore n [.ref (T.ad 0 0), .ref (T.ad 6 d), .int (nI p), .int (nI q)] (I, J, R, Z, T) Q := by
  refine x_met (L0 := [(1, .ref (T.ad 0 0)), (1, .ref (T.ad 6 d)), (1, .int (nI p)), (1, .int (nI q)), xo]) (by decide +kernel) rfl ⟨Nat.le_of_ble_eq_true rfl, rfl⟩ ?_
  refine x_iconst (v := 0) 1 dX1_isBefore_0 rfl rfl ?_
  refine x_istore 3 [(1, .ref (T.ad 0 0)), (1, .ref (T.ad 6 d)), (1, .int (nI p)), (1, .int (nI q)), (1, .int 0)] dX1_isBefore_1 rfl (by decide) rfl ?_
  exact l_X1_isBefore hk hd hp hq5 hq 0 hn (by omega) (fun j hj => absurd hj (by omega))
noncomputable def iBeh1 (I : xI) (d : Nat) (l nx : Option Nat) (k : Nat) : Option Nat :=
  cif (I 41 d k = 0 ∨ ∃ m, l = some m ∧ ¬ iBef I d m k) nx (cif (nx = none ∨ ∃ q, nx = some q ∧ iBef I d k q) (some k) nx)
/-- the slot of the next name behind l -/
noncomputable def iBeh (I : xI) (d : Nat) (l : Option Nat) : Nat → Option Nat
  | 0 => none
  | k + 1 => iBeh1 I d l (iBeh I d l k) k
theorem iBeh_lt {I : xI} {d : Nat} {l : Option Nat} : ∀ (n q : Nat), iBeh I d l n = some q → q < n
  | 0, q, h => by cases h
  | n + 1, q, h => by
    have h2 : iBeh1 I d l (iBeh I d l n) n = some q := h
    unfold iBeh1 at h2
    by_cases c1 : I 41 d n = 0 ∨ ∃ m, l = some m ∧ ¬ iBef I d m n
    · rw [cif_t c1] at h2; have := iBeh_lt n q h2; omega
    · rw [cif_f c1] at h2
      by_cases c2 : iBeh I d l n = none ∨ ∃ q, iBeh I d l n = some q ∧ iBef I d n q
      · rw [cif_t c2] at h2; cases h2; omega
      · rw [cif_f c2] at h2; have := iBeh_lt n q h2; omega
theorem dX1_behind_0 : decode cX1_behind 0 = .ok (.iconst (-1), 1) := by decide +kernel
theorem dX1_behind_1 : decode cX1_behind 1 = .ok (.istore_n 3, 1) := by decide +kernel
theorem dX1_behind_2 : decode cX1_behind 2 = .ok (.iconst 0, 1) := by decide +kernel
theorem dX1_behind_3 : decode cX1_behind 3 = .ok (.istore 4, 2) := by decide +kernel
theorem dX1_behind_5 : decode cX1_behind 5 = .ok (.iload 4, 2) := by decide +kernel
theorem dX1_behind_7 : decode cX1_behind 7 = .ok (.sipush 512, 3) := by decide +kernel
theorem dX1_behind_10 : decode cX1_behind 10 = .ok (.if_icmp .ge 57, 3) := by decide +kernel
theorem dX1_behind_13 : decode cX1_behind 13 = .ok (.aload_n 1, 1) := by decide +kernel
theorem dX1_behind_14 : decode cX1_behind 14 = .ok (.getfield 696, 3) := by decide +kernel
theorem dX1_behind_17 : decode cX1_behind 17 = .ok (.iload 4, 2) := by decide +kernel
theorem dX1_behind_19 : decode cX1_behind 19 = .ok (.iaload, 1) := by decide +kernel
theorem dX1_behind_20 : decode cX1_behind 20 = .ok (.ifCond .eq 41, 3) := by decide +kernel
theorem dX1_behind_23 : decode cX1_behind 23 = .ok (.iload_n 2, 1) := by decide +kernel
theorem dX1_behind_24 : decode cX1_behind 24 = .ok (.iconst (-1), 1) := by decide +kernel
theorem dX1_behind_25 : decode cX1_behind 25 = .ok (.if_icmp .eq 17, 3) := by decide +kernel
theorem dX1_behind_28 : decode cX1_behind 28 = .ok (.aload_n 0, 1) := by decide +kernel
theorem dX1_behind_29 : decode cX1_behind 29 = .ok (.aload_n 1, 1) := by decide +kernel
theorem dX1_behind_30 : decode cX1_behind 30 = .ok (.iload_n 2, 1) := by decide +kernel
theorem dX1_behind_31 : decode cX1_behind 31 = .ok (.iload 4, 2) := by decide +kernel
theorem dX1_behind_33 : decode cX1_behind 33 = .ok (.invokevirtual 699, 3) := by decide +kernel
theorem dX1_behind_36 : decode cX1_behind 36 = .ok (.ifCond .ne 6, 3) := by decide +kernel
theorem dX1_behind_39 : decode cX1_behind 39 = .ok (.goto 22, 3) := by decide +kernel
theorem dX1_behind_42 : decode cX1_behind 42 = .ok (.iload_n 3, 1) := by decide +kernel
theorem dX1_behind_43 : decode cX1_behind 43 = .ok (.iconst (-1), 1) := by decide +kernel
theorem dX1_behind_44 : decode cX1_behind 44 = .ok (.if_icmp .eq 14, 3) := by decide +kernel
theorem dX1_behind_47 : decode cX1_behind 47 = .ok (.aload_n 0, 1) := by decide +kernel
theorem dX1_behind_48 : decode cX1_behind 48 = .ok (.aload_n 1, 1) := by decide +kernel
theorem dX1_behind_49 : decode cX1_behind 49 = .ok (.iload 4, 2) := by decide +kernel
theorem dX1_behind_51 : decode cX1_behind 51 = .ok (.iload_n 3, 1) := by decide +kernel
theorem dX1_behind_52 : decode cX1_behind 52 = .ok (.invokevirtual 699, 3) := by decide +kernel
theorem dX1_behind_55 : decode cX1_behind 55 = .ok (.ifCond .eq 6, 3) := by decide +kernel
theorem dX1_behind_58 : decode cX1_behind 58 = .ok (.iload 4, 2) := by decide +kernel
theorem dX1_behind_60 : decode cX1_behind 60 = .ok (.istore_n 3, 1) := by decide +kernel
theorem dX1_behind_61 : decode cX1_behind 61 = .ok (.iinc 4 1, 3) := by decide +kernel
theorem dX1_behind_64 : decode cX1_behind 64 = .ok (.goto (-59), 3) := by decide +kernel
theorem dX1_behind_67 : decode cX1_behind 67 = .ok (.iload_n 3, 1) := by decide +kernel
theorem dX1_behind_68 : decode cX1_behind 68 = .ok (.ireturn, 1) := by decide +kernel
set_option maxHeartbeats 4000000 in
set_option maxRecDepth 100000 in
theorem l_X1_behind {G : xG} {n a b : Nat} {Q : Outcome → xS → Prop} {J : xJ} {Z : xR} {T : xT} {R : xR} {I : xI} {N B : Nat} (hk : KS Z T N B) {d : Nat} (hd : d < N) {l : Option Nat} (hl : ∀ m, l = some m → m < 512) (hn : 2 ≤ n) (hq : Q (.returned (some (.int (oI (iBeh I d l 512))))) (I, J, R, Z, T)) (k : Nat) (nx : Option Nat) :
    k ≤ 512 → nx = iBeh I d l k → X G mX1_behind n a b Q (I, J, R, Z, T) 5 [(1, .ref (T.ad 0 0)), (1, .ref (T.ad 6 d)), (1, .int (oI l)), (1, .int (oI nx)), (1, .int (nI k))] [] := by
  induction hm : 512 - k using Nat.strongRecOn generalizing k nx with
  | _ m_ ih =>
    intro h8 hx
    have hxl : ∀ q, nx = some q → q < 512 := fun q e => by have := iBeh_lt k q (hx.symm.trans e); omega
    rcases l with _ | l <;> rcases nx with _ | q
    · skip
      refine x_iload 7 dX1_behind_5 rfl rfl ?_
      refine x_sipush (v := 512) 10 dX1_behind_7 rfl rfl ?_
      refine x_icmp_ge 67 13 dX1_behind_10 (by decide) rfl (fun c10 => ?_) (fun c10 => ?_)
      · skip
        have c10 : 512 ≤ k := (nI_leI (a := 512) (b := k) (by omega) (by omega)).mp c10
        refine x_iload_n 68 dX1_behind_67 rfl rfl ?_
        refine x_ireturn dX1_behind_68 rfl ?_
        have e : k = 512 := by omega
        rw [e] at hx; rw [← hx] at hq; exact hq
      · skip
        have c10 : ¬ (512 ≤ k) := fun h => c10 ((nI_leI (a := 512) (b := k) (by omega) (by omega)).mpr h)
        refine x_aload_n 14 dX1_behind_13 rfl rfl ?_
        refine x_getz 17 dX1_behind_14 rfl fl_X1_696 (hk.l6 (by omega)) (hk.z6_27 (by omega)) ?_
        refine x_iload 19 dX1_behind_17 rfl rfl ?_
        refine x_iald 20 dX1_behind_19 rfl ar_41 (hk.l41 (by omega)) (xb (hk.n41 (by omega)) (by omega) (by omega)) ?_
        refine x_if_eq 61 23 dX1_behind_20 (by decide) rfl (fun c20 => ?_) (fun c20 => ?_)
        · skip
          refine x_iinc 64 [(1, .ref (T.ad 0 0)), (1, .ref (T.ad 6 d)), (1, .int (-1)), (1, .int (-1)), (1, .int (nI (k + 1)))] dX1_behind_61 rfl (by decide) rfl (xi_1 k) rfl ?_
          refine x_goto 5 dX1_behind_64 (by decide) ?_
          exact ih _ (by rw [← hm]; omega) (k + 1) (none) rfl (by omega) (Eq.symm (by show iBeh1 I d _ (iBeh I d _ k) k = _; rw [← hx]; unfold iBeh1; rw [cif_t (Or.inl c20)]))
        · skip
          refine x_iload_n 24 dX1_behind_23 rfl rfl ?_
          refine x_iconst (v := -1) 25 dX1_behind_24 rfl rfl ?_
          refine x_icmp_eq 42 28 dX1_behind_25 (by decide) rfl (fun c25 => ?_) (fun c25 => ?_)
          · skip
            refine x_iload_n 43 dX1_behind_42 rfl rfl ?_
            refine x_iconst (v := -1) 44 dX1_behind_43 rfl rfl ?_
            refine x_icmp_eq 58 47 dX1_behind_44 (by decide) rfl (fun c44 => ?_) (fun c44 => ?_)
            · skip
              refine x_iload 60 dX1_behind_58 rfl rfl ?_
              refine x_istore_n 61 [(1, .ref (T.ad 0 0)), (1, .ref (T.ad 6 d)), (1, .int (-1)), (1, .int (nI k)), (1, .int (nI k))] dX1_behind_60 rfl (by decide) rfl ?_
              refine x_iinc 64 [(1, .ref (T.ad 0 0)), (1, .ref (T.ad 6 d)), (1, .int (-1)), (1, .int (nI k)), (1, .int (nI (k + 1)))] dX1_behind_61 rfl (by decide) rfl (xi_1 k) rfl ?_
              refine x_goto 5 dX1_behind_64 (by decide) ?_
              exact ih _ (by rw [← hm]; omega) (k + 1) (some k) rfl (by omega) (Eq.symm (by show iBeh1 I d _ (iBeh I d _ k) k = _; rw [← hx]; unfold iBeh1; rw [cif_f (by rintro (h | ⟨m, h1, h2⟩); exact c20 h; cases h1), cif_t (Or.inl rfl)]))
            · skip
              exfalso; revert c44; decide
          · skip
            exfalso; revert c25; decide
    · skip
      have hx5 := hxl q rfl
      refine x_iload 7 dX1_behind_5 rfl rfl ?_
      refine x_sipush (v := 512) 10 dX1_behind_7 rfl rfl ?_
      refine x_icmp_ge 67 13 dX1_behind_10 (by decide) rfl (fun c10 => ?_) (fun c10 => ?_)
      · skip
        have c10 : 512 ≤ k := (nI_leI (a := 512) (b := k) (by omega) (by omega)).mp c10
        refine x_iload_n 68 dX1_behind_67 rfl rfl ?_
        refine x_ireturn dX1_behind_68 rfl ?_
        have e : k = 512 := by omega
        rw [e] at hx; rw [← hx] at hq; exact hq
      · skip
        have c10 : ¬ (512 ≤ k) := fun h => c10 ((nI_leI (a := 512) (b := k) (by omega) (by omega)).mpr h)
        refine x_aload_n 14 dX1_behind_13 rfl rfl ?_
        refine x_getz 17 dX1_behind_14 rfl fl_X1_696 (hk.l6 (by omega)) (hk.z6_27 (by omega)) ?_
        refine x_iload 19 dX1_behind_17 rfl rfl ?_
        refine x_iald 20 dX1_behind_19 rfl ar_41 (hk.l41 (by omega)) (xb (hk.n41 (by omega)) (by omega) (by omega)) ?_
        refine x_if_eq 61 23 dX1_behind_20 (by decide) rfl (fun c20 => ?_) (fun c20 => ?_)
        · skip
          refine x_iinc 64 [(1, .ref (T.ad 0 0)), (1, .ref (T.ad 6 d)), (1, .int (-1)), (1, .int (nI q)), (1, .int (nI (k + 1)))] dX1_behind_61 rfl (by decide) rfl (xi_1 k) rfl ?_
          refine x_goto 5 dX1_behind_64 (by decide) ?_
          exact ih _ (by rw [← hm]; omega) (k + 1) (some q) rfl (by omega) (Eq.symm (by show iBeh1 I d _ (iBeh I d _ k) k = _; rw [← hx]; unfold iBeh1; rw [cif_t (Or.inl c20)]))
        · skip
          refine x_iload_n 24 dX1_behind_23 rfl rfl ?_
          refine x_iconst (v := -1) 25 dX1_behind_24 rfl rfl ?_
          refine x_icmp_eq 42 28 dX1_behind_25 (by decide) rfl (fun c25 => ?_) (fun c25 => ?_)
          · skip
            refine x_iload_n 43 dX1_behind_42 rfl rfl ?_
            refine x_iconst (v := -1) 44 dX1_behind_43 rfl rfl ?_
            refine x_icmp_eq 58 47 dX1_behind_44 (by decide) rfl (fun c44 => ?_) (fun c44 => ?_)
            · skip
              exact absurd c44 (nI_m1 (by omega))
            · skip
              refine x_aload_n 48 dX1_behind_47 rfl rfl ?_
              refine x_aload_n 49 dX1_behind_48 rfl rfl ?_
              refine x_iload 51 dX1_behind_49 rfl rfl ?_
              refine x_iload_n 52 dX1_behind_51 rfl rfl ?_
              refine x_callV (as := [.ref (T.ad 6 d), .int (nI k), .int (nI q)]) (rest := []) (i := 0) (n' := n - 1) 55 dX1_behind_52 rfl mv_X1_699 rfl rfl (hk.l0 (by omega)) (xnh rfl) (by omega) (xst (Nat.le_of_ble_eq_true rfl)) (c_X1_isBefore hk (by omega) (by omega) (by omega) (by omega) ?_)
              change X _ _ _ _ _ _ _ _ _ _
              refine x_if_eq 61 58 dX1_behind_55 (by decide) rfl (fun c55 => ?_) (fun c55 => ?_)
              · skip
                have c55 : ¬ (iBef I d k q) := b2i_0.mp c55
                refine x_iinc 64 [(1, .ref (T.ad 0 0)), (1, .ref (T.ad 6 d)), (1, .int (-1)), (1, .int (nI q)), (1, .int (nI (k + 1)))] dX1_behind_61 rfl (by decide) rfl (xi_1 k) rfl ?_
                refine x_goto 5 dX1_behind_64 (by decide) ?_
                exact ih _ (by rw [← hm]; omega) (k + 1) (some q) rfl (by omega) (Eq.symm (by show iBeh1 I d _ (iBeh I d _ k) k = _; rw [← hx]; unfold iBeh1; rw [cif_f (by rintro (h | ⟨m, h1, h2⟩); exact c20 h; cases h1), cif_f (by rintro (h | ⟨m, h1, h2⟩); cases h; cases h1; exact c55 h2)]))
              · skip
                have c55 : iBef I d k q := b2i_n0.mp c55
                refine x_iload 60 dX1_behind_58 rfl rfl ?_
                refine x_istore_n 61 [(1, .ref (T.ad 0 0)), (1, .ref (T.ad 6 d)), (1, .int (-1)), (1, .int (nI k)), (1, .int (nI k))] dX1_behind_60 rfl (by decide) rfl ?_
                refine x_iinc 64 [(1, .ref (T.ad 0 0)), (1, .ref (T.ad 6 d)), (1, .int (-1)), (1, .int (nI k)), (1, .int (nI (k + 1)))] dX1_behind_61 rfl (by decide) rfl (xi_1 k) rfl ?_
                refine x_goto 5 dX1_behind_64 (by decide) ?_
                exact ih _ (by rw [← hm]; omega) (k + 1) (some k) rfl (by omega) (Eq.symm (by show iBeh1 I d _ (iBeh I d _ k) k = _; rw [← hx]; unfold iBeh1; rw [cif_f (by rintro (h | ⟨m, h1, h2⟩); exact c20 h; cases h1), cif_t (Or.inr ⟨_, rfl, c55⟩)]))
          · skip
            exfalso; revert c25; decide
    · skip
      have hl5 := hl l rfl
      refine x_iload 7 dX1_behind_5 rfl rfl ?_
      refine x_sipush (v := 512) 10 dX1_behind_7 rfl rfl ?_
      refine x_icmp_ge 67 13 dX1_behind_10 (by decide) rfl (fun c10 => ?_) (fun c10 => ?_)
      · skip
        have c10 : 512 ≤ k := (nI_leI (a := 512) (b := k) (by omega) (by omega)).mp c10
        refine x_iload_n 68 dX1_behind_67 rfl rfl ?_
        refine x_ireturn dX1_behind_68 rfl ?_
        have e : k = 512 := by omega
        rw [e] at hx; rw [← hx] at hq; exact hq
      · skip
        have c10 : ¬ (512 ≤ k) := fun h => c10 ((nI_leI (a := 512) (b := k) (by omega) (by omega)).mpr h)
        refine x_aload_n 14 dX1_behind_13 rfl rfl ?_
        refine x_getz 17 dX1_behind_14 rfl fl_X1_696 (hk.l6 (by omega)) (hk.z6_27 (by omega)) ?_
        refine x_iload 19 dX1_behind_17 rfl rfl ?_
        refine x_iald 20 dX1_behind_19 rfl ar_41 (hk.l41 (by omega)) (xb (hk.n41 (by omega)) (by omega) (by omega)) ?_
        refine x_if_eq 61 23 dX1_behind_20 (by decide) rfl (fun c20 => ?_) (fun c20 => ?_)
        · skip
          refine x_iinc 64 [(1, .ref (T.ad 0 0)), (1, .ref (T.ad 6 d)), (1, .int (nI l)), (1, .int (-1)), (1, .int (nI (k + 1)))] dX1_behind_61 rfl (by decide) rfl (xi_1 k) rfl ?_
          refine x_goto 5 dX1_behind_64 (by decide) ?_
          exact ih _ (by rw [← hm]; omega) (k + 1) (none) rfl (by omega) (Eq.symm (by show iBeh1 I d _ (iBeh I d _ k) k = _; rw [← hx]; unfold iBeh1; rw [cif_t (Or.inl c20)]))
        · skip
          refine x_iload_n 24 dX1_behind_23 rfl rfl ?_
          refine x_iconst (v := -1) 25 dX1_behind_24 rfl rfl ?_
          refine x_icmp_eq 42 28 dX1_behind_25 (by decide) rfl (fun c25 => ?_) (fun c25 => ?_)
          · skip
            exact absurd c25 (nI_m1 (by omega))
          · skip
            refine x_aload_n 29 dX1_behind_28 rfl rfl ?_
            refine x_aload_n 30 dX1_behind_29 rfl rfl ?_
            refine x_iload_n 31 dX1_behind_30 rfl rfl ?_
            refine x_iload 33 dX1_behind_31 rfl rfl ?_
            refine x_callV (as := [.ref (T.ad 6 d), .int (nI l), .int (nI k)]) (rest := []) (i := 0) (n' := n - 1) 36 dX1_behind_33 rfl mv_X1_699 rfl rfl (hk.l0 (by omega)) (xnh rfl) (by omega) (xst (Nat.le_of_ble_eq_true rfl)) (c_X1_isBefore hk (by omega) (by omega) (by omega) (by omega) ?_)
            change X _ _ _ _ _ _ _ _ _ _
            refine x_if_ne 42 39 dX1_behind_36 (by decide) rfl (fun c36 => ?_) (fun c36 => ?_)
            · skip
              have c36 : iBef I d l k := b2i_n0.mp c36
              refine x_iload_n 43 dX1_behind_42 rfl rfl ?_
              refine x_iconst (v := -1) 44 dX1_behind_43 rfl rfl ?_
              refine x_icmp_eq 58 47 dX1_behind_44 (by decide) rfl (fun c44 => ?_) (fun c44 => ?_)
              · skip
                refine x_iload 60 dX1_behind_58 rfl rfl ?_
                refine x_istore_n 61 [(1, .ref (T.ad 0 0)), (1, .ref (T.ad 6 d)), (1, .int (nI l)), (1, .int (nI k)), (1, .int (nI k))] dX1_behind_60 rfl (by decide) rfl ?_
                refine x_iinc 64 [(1, .ref (T.ad 0 0)), (1, .ref (T.ad 6 d)), (1, .int (nI l)), (1, .int (nI k)), (1, .int (nI (k + 1)))] dX1_behind_61 rfl (by decide) rfl (xi_1 k) rfl ?_
                refine x_goto 5 dX1_behind_64 (by decide) ?_
                exact ih _ (by rw [← hm]; omega) (k + 1) (some k) rfl (by omega) (Eq.symm (by show iBeh1 I d _ (iBeh I d _ k) k = _; rw [← hx]; unfold iBeh1; rw [cif_f (by rintro (h | ⟨m, h1, h2⟩); exact c20 h; cases h1; exact h2 c36), cif_t (Or.inl rfl)]))
              · skip
                exfalso; revert c44; decide
            · skip
              have c36 : ¬ (iBef I d l k) := b2i_0.mp c36
              refine x_goto 61 dX1_behind_39 (by decide) ?_
              refine x_iinc 64 [(1, .ref (T.ad 0 0)), (1, .ref (T.ad 6 d)), (1, .int (nI l)), (1, .int (-1)), (1, .int (nI (k + 1)))] dX1_behind_61 rfl (by decide) rfl (xi_1 k) rfl ?_
              refine x_goto 5 dX1_behind_64 (by decide) ?_
              exact ih _ (by rw [← hm]; omega) (k + 1) (none) rfl (by omega) (Eq.symm (by show iBeh1 I d _ (iBeh I d _ k) k = _; rw [← hx]; unfold iBeh1; rw [cif_t (Or.inr ⟨_, rfl, c36⟩)]))
    · skip
      have hl5 := hl l rfl
      have hx5 := hxl q rfl
      refine x_iload 7 dX1_behind_5 rfl rfl ?_
      refine x_sipush (v := 512) 10 dX1_behind_7 rfl rfl ?_
      refine x_icmp_ge 67 13 dX1_behind_10 (by decide) rfl (fun c10 => ?_) (fun c10 => ?_)
      · skip
        have c10 : 512 ≤ k := (nI_leI (a := 512) (b := k) (by omega) (by omega)).mp c10
        refine x_iload_n 68 dX1_behind_67 rfl rfl ?_
        refine x_ireturn dX1_behind_68 rfl ?_
        have e : k = 512 := by omega
        rw [e] at hx; rw [← hx] at hq; exact hq
      · skip
        have c10 : ¬ (512 ≤ k) := fun h => c10 ((nI_leI (a := 512) (b := k) (by omega) (by omega)).mpr h)
        refine x_aload_n 14 dX1_behind_13 rfl rfl ?_
        refine x_getz 17 dX1_behind_14 rfl fl_X1_696 (hk.l6 (by omega)) (hk.z6_27 (by omega)) ?_
        refine x_iload 19 dX1_behind_17 rfl rfl ?_
        refine x_iald 20 dX1_behind_19 rfl ar_41 (hk.l41 (by omega)) (xb (hk.n41 (by omega)) (by omega) (by omega)) ?_
        refine x_if_eq 61 23 dX1_behind_20 (by decide) rfl (fun c20 => ?_) (fun c20 => ?_)
        · skip
          refine x_iinc 64 [(1, .ref (T.ad 0 0)), (1, .ref (T.ad 6 d)), (1, .int (nI l)), (1, .int (nI q)), (1, .int (nI (k + 1)))] dX1_behind_61 rfl (by decide) rfl (xi_1 k) rfl ?_
          refine x_goto 5 dX1_behind_64 (by decide) ?_
          exact ih _ (by rw [← hm]; omega) (k + 1) (some q) rfl (by omega) (Eq.symm (by show iBeh1 I d _ (iBeh I d _ k) k = _; rw [← hx]; unfold iBeh1; rw [cif_t (Or.inl c20)]))
        · skip
          refine x_iload_n 24 dX1_behind_23 rfl rfl ?_
          refine x_iconst (v := -1) 25 dX1_behind_24 rfl rfl ?_
          refine x_icmp_eq 42 28 dX1_behind_25 (by decide) rfl (fun c25 => ?_) (fun c25 => ?_)
          · skip
            exact absurd c25 (nI_m1 (by omega))
          · skip
            refine x_aload_n 29 dX1_behind_28 rfl rfl ?_
            refine x_aload_n 30 dX1_behind_29 rfl rfl ?_
            refine x_iload_n 31 dX1_behind_30 rfl rfl ?_
            refine x_iload 33 dX1_behind_31 rfl rfl ?_
            refine x_callV (as := [.ref (T.ad 6 d), .int (nI l), .int (nI k)]) (rest := []) (i := 0) (n' := n - 1) 36 dX1_behind_33 rfl mv_X1_699 rfl rfl (hk.l0 (by omega)) (xnh rfl) (by omega) (xst (Nat.le_of_ble_eq_true rfl)) (c_X1_isBefore hk (by omega) (by omega) (by omega) (by omega) ?_)
            change X _ _ _ _ _ _ _ _ _ _
            refine x_if_ne 42 39 dX1_behind_36 (by decide) rfl (fun c36 => ?_) (fun c36 => ?_)
            · skip
              have c36 : iBef I d l k := b2i_n0.mp c36
              refine x_iload_n 43 dX1_behind_42 rfl rfl ?_
              refine x_iconst (v := -1) 44 dX1_behind_43 rfl rfl ?_
              refine x_icmp_eq 58 47 dX1_behind_44 (by decide) rfl (fun c44 => ?_) (fun c44 => ?_)
              · skip
                exact absurd c44 (nI_m1 (by omega))
              · skip
                refine x_aload_n 48 dX1_behind_47 rfl rfl ?_
                refine x_aload_n 49 dX1_behind_48 rfl rfl ?_
                refine x_iload 51 dX1_behind_49 rfl rfl ?_
                refine x_iload_n 52 dX1_behind_51 rfl rfl ?_
                refine x_callV (as := [.ref (T.ad 6 d), .int (nI k), .int (nI q)]) (rest := []) (i := 0) (n' := n - 1) 55 dX1_behind_52 rfl mv_X1_699 rfl rfl (hk.l0 (by omega)) (xnh rfl) (by omega) (xst (Nat.le_of_ble_eq_true rfl)) (c_X1_isBefore hk (by omega) (by omega) (by omega) (by omega) ?_)
                change X _ _ _ _ _ _ _ _ _ _
                refine x_if_eq 61 58 dX1_behind_55 (by decide) rfl (fun c55 => ?_) (fun c55 => ?_)
                · skip
                  have c55 : ¬ (iBef I d k q) := b2i_0.mp c55
                  refine x_iinc 64 [(1, .ref (T.ad 0 0)), (1, .ref (T.ad 6 d)), (1, .int (nI l)), (1, .int (nI q)), (1, .int (nI (k + 1)))] dX1_behind_61 rfl (by decide) rfl (xi_1 k) rfl ?_
                  refine x_goto 5 dX1_behind_64 (by decide) ?_
                  exact ih _ (by rw [← hm]; omega) (k + 1) (some q) rfl (by omega) (Eq.symm (by show iBeh1 I d _ (iBeh I d _ k) k = _; rw [← hx]; unfold iBeh1; rw [cif_f (by rintro (h | ⟨m, h1, h2⟩); exact c20 h; cases h1; exact h2 c36), cif_f (by rintro (h | ⟨m, h1, h2⟩); cases h; cases h1; exact c55 h2)]))
                · skip
                  have c55 : iBef I d k q := b2i_n0.mp c55
                  refine x_iload 60 dX1_behind_58 rfl rfl ?_
                  refine x_istore_n 61 [(1, .ref (T.ad 0 0)), (1, .ref (T.ad 6 d)), (1, .int (nI l)), (1, .int (nI k)), (1, .int (nI k))] dX1_behind_60 rfl (by decide) rfl ?_
                  refine x_iinc 64 [(1, .ref (T.ad 0 0)), (1, .ref (T.ad 6 d)), (1, .int (nI l)), (1, .int (nI k)), (1, .int (nI (k + 1)))] dX1_behind_61 rfl (by decide) rfl (xi_1 k) rfl ?_
                  refine x_goto 5 dX1_behind_64 (by decide) ?_
                  exact ih _ (by rw [← hm]; omega) (k + 1) (some k) rfl (by omega) (Eq.symm (by show iBeh1 I d _ (iBeh I d _ k) k = _; rw [← hx]; unfold iBeh1; rw [cif_f (by rintro (h | ⟨m, h1, h2⟩); exact c20 h; cases h1; exact h2 c36), cif_t (Or.inr ⟨_, rfl, c55⟩)]))
            · skip
              have c36 : ¬ (iBef I d l k) := b2i_0.mp c36
              refine x_goto 61 dX1_behind_39 (by decide) ?_
              refine x_iinc 64 [(1, .ref (T.ad 0 0)), (1, .ref (T.ad 6 d)), (1, .int (nI l)), (1, .int (nI q)), (1, .int (nI (k + 1)))] dX1_behind_61 rfl (by decide) rfl (xi_1 k) rfl ?_
              refine x_goto 5 dX1_behind_64 (by decide) ?_
              exact ih _ (by rw [← hm]; omega) (k + 1) (some q) rfl (by omega) (Eq.symm (by show iBeh1 I d _ (iBeh I d _ k) k = _; rw [← hx]; unfold iBeh1; rw [cif_t (Or.inr ⟨_, rfl, c36⟩)]))
set_option maxHeartbeats 4000000 in
set_option maxRecDepth 100000 in
theorem c_X1_behind {G : xG} {n : Nat} {Q : Outcome → xS → Prop} {I : xI} {J : xJ} {R Z : xR} {T : xT} {N B : Nat} (hk : KS Z T N B) {d : Nat} (hd : d < N) {l : Option Nat} (hl : ∀ m, l = some m → m < 512) (hn : 2 ≤ n) (hq : Q (.returned (some (.int (oI (iBeh I d l 512))))) (I, J, R, Z, T)) : xCall G mX1_behind n [.ref (T.ad 0 0), .ref (T.ad 6 d), .int (oI l)] (I, J, R, Z, T) Q := by
  refine x_met (L0 := [(1, .ref (T.ad 0 0)), (1, .ref (T.ad 6 d)), (1, .int (oI l)), xo, xo]) (by decide +kernel) rfl ⟨Nat.le_of_ble_eq_true rfl, rfl⟩ ?_
  refine x_iconst (v := -1) 1 dX1_behind_0 rfl rfl ?_
  refine x_istore_n 2 [(1, .ref (T.ad 0 0)), (1, .ref (T.ad 6 d)), (1, .int (oI l)), (1, .int (-1)), xo] dX1_behind_1 rfl (by decide) rfl ?_
  refine x_iconst (v := 0) 3 dX1_behind_2 rfl rfl ?_
  refine x_istore 5 [(1, .ref (T.ad 0 0)), (1, .ref (T.ad 6 d)), (1, .int (oI l)), (1, .int (-1)), (1, .int 0)] dX1_behind_3 rfl (by decide) rfl ?_
  exact l_X1_behind hk hd hl hn hq 0 none (by omega) rfl
noncomputable def kKil (I : xI) (p : Nat) (t : Int32) : xI := cif (∃ j, j < iN (I 9 p 16) ∧ I 48 p j = t) I (xu (xu I 9 p 16 (nI (iN (I 9 p 16) + 1))) 48 p (iN (I 9 p 16)) t)
theorem dX10_kill_0 : decode cX10_kill 0 = .ok (.iconst 0, 1) := by decide +kernel
theorem dX10_kill_1 : decode cX10_kill 1 = .ok (.istore_n 2, 1) := by decide +kernel
theorem dX10_kill_2 : decode cX10_kill 2 = .ok (.iload_n 2, 1) := by decide +kernel
theorem dX10_kill_3 : decode cX10_kill 3 = .ok (.aload_n 0, 1) := by decide +kernel
theorem dX10_kill_4 : decode cX10_kill 4 = .ok (.getfield 60, 3) := by decide +kernel
theorem dX10_kill_7 : decode cX10_kill 7 = .ok (.if_icmp .ge 20, 3) := by decide +kernel
theorem dX10_kill_10 : decode cX10_kill 10 = .ok (.aload_n 0, 1) := by decide +kernel
theorem dX10_kill_11 : decode cX10_kill 11 = .ok (.getfield 20, 3) := by decide +kernel
theorem dX10_kill_14 : decode cX10_kill 14 = .ok (.iload_n 2, 1) := by decide +kernel
theorem dX10_kill_15 : decode cX10_kill 15 = .ok (.iaload, 1) := by decide +kernel
theorem dX10_kill_16 : decode cX10_kill 16 = .ok (.iload_n 1, 1) := by decide +kernel
theorem dX10_kill_17 : decode cX10_kill 17 = .ok (.if_icmp .ne 4, 3) := by decide +kernel
theorem dX10_kill_20 : decode cX10_kill 20 = .ok (.return_, 1) := by decide +kernel
theorem dX10_kill_21 : decode cX10_kill 21 = .ok (.iinc 2 1, 3) := by decide +kernel
theorem dX10_kill_24 : decode cX10_kill 24 = .ok (.goto (-22), 3) := by decide +kernel
theorem dX10_kill_27 : decode cX10_kill 27 = .ok (.aload_n 0, 1) := by decide +kernel
theorem dX10_kill_28 : decode cX10_kill 28 = .ok (.getfield 20, 3) := by decide +kernel
theorem dX10_kill_31 : decode cX10_kill 31 = .ok (.aload_n 0, 1) := by decide +kernel
theorem dX10_kill_32 : decode cX10_kill 32 = .ok (.dup, 1) := by decide +kernel
theorem dX10_kill_33 : decode cX10_kill 33 = .ok (.getfield 60, 3) := by decide +kernel
theorem dX10_kill_36 : decode cX10_kill 36 = .ok (.dup_x1, 1) := by decide +kernel
theorem dX10_kill_37 : decode cX10_kill 37 = .ok (.iconst 1, 1) := by decide +kernel
theorem dX10_kill_38 : decode cX10_kill 38 = .ok (.iadd, 1) := by decide +kernel
theorem dX10_kill_39 : decode cX10_kill 39 = .ok (.putfield 60, 3) := by decide +kernel
theorem dX10_kill_42 : decode cX10_kill 42 = .ok (.iload_n 1, 1) := by decide +kernel
theorem dX10_kill_43 : decode cX10_kill 43 = .ok (.iastore, 1) := by decide +kernel
theorem dX10_kill_44 : decode cX10_kill 44 = .ok (.return_, 1) := by decide +kernel
set_option maxHeartbeats 4000000 in
set_option maxRecDepth 100000 in
theorem l_X10_kill {G : xG} {n a b : Nat} {Q : Outcome → xS → Prop} {J : xJ} {Z : xR} {T : xT} {R : xR} {I : xI} {N B : Nat} (hk : KS Z T N B) {p : Nat} (hp : p < 16) {t : Int32} {m : Nat} (hm0 : I 9 p 16 = nI m ∧ m ≤ 16) (hm2 : (∀ j, j < m → ¬ I 48 p j = t) → m < 16) (hq : Q (.returned none) (kKil I p t, J, R, Z, T)) (k : Nat) (hn : 1 ≤ n) :
    (k ≤ m) → (∀ j, j < k → ¬ I 48 p j = t) → X G mX10_kill n a b Q (I, J, R, Z, T) 2 [(1, .ref (T.ad 9 p)), (1, .int t), (1, .int (nI k))] [] := by
  induction hm : m - k using Nat.strongRecOn generalizing k with
  | _ m_ ih =>
    intro h8 hv
    refine x_iload_n 3 dX10_kill_2 rfl rfl ?_
    refine x_aload_n 4 dX10_kill_3 rfl rfl ?_
    refine x_geti 7 dX10_kill_4 rfl fl_X10_60 (hk.l9 (by omega)) ?_
    refine x_vi (w := nI m) hm0.1 ?_
    refine x_icmp_ge 27 10 dX10_kill_7 (by decide) rfl (fun c7 => ?_) (fun c7 => ?_)
    · skip
      have c7 : m ≤ k := (nI_leI (a := m) (b := k) (by omega) (by omega)).mp c7
      refine x_aload_n 28 dX10_kill_27 rfl rfl ?_
      refine x_getz 31 dX10_kill_28 rfl fl_X10_20 (hk.l9 (by omega)) (hk.z9_15 (by omega)) ?_
      have hm3 := hm2 (fun j hj => hv j (by omega))
      refine x_aload_n 32 dX10_kill_31 rfl rfl ?_
      refine x_dup 33 dX10_kill_32 rfl rfl ?_
      refine x_geti 36 dX10_kill_33 rfl fl_X10_60 (hk.l9 (by omega)) ?_
      refine x_vi (w := nI m) hm0.1 ?_
      refine x_dup_x1 37 dX10_kill_36 rfl rfl rfl ?_
      refine x_iconst (v := 1) 38 dX10_kill_37 rfl rfl ?_
      refine x_iaddn m 1 39 dX10_kill_38 rfl rfl rfl ?_
      refine x_puti 42 dX10_kill_39 rfl fl_X10_60 rfl rfl (hk.l9 (by omega)) ?_
      refine x_nmI fun I1 hI1 => ?_
      refine x_iload_n 43 dX10_kill_42 rfl rfl ?_
      refine x_iast 44 dX10_kill_43 rfl ar_48 (by decide) (by decide) (hk.l48 (by omega)) (xb (hk.n48 (by omega)) (by omega) (by omega)) ?_
      refine x_nmI fun I2 hI2 => ?_
      refine x_vreturn dX10_kill_44 rfl ?_
      have em : iN (I 9 p 16) = m := by rw [hm0.1, iN_nI (by omega)]
      unfold kKil at hq; rw [em] at hq
      rw [cif_f (fun ⟨j, h1, h2⟩ => hv j (by omega) h2)] at hq
      rw [hI2, hI1]
      exact hq
    · skip
      have c7 : ¬ (m ≤ k) := fun h => c7 ((nI_leI (a := m) (b := k) (by omega) (by omega)).mpr h)
      refine x_aload_n 11 dX10_kill_10 rfl rfl ?_
      refine x_getz 14 dX10_kill_11 rfl fl_X10_20 (hk.l9 (by omega)) (hk.z9_15 (by omega)) ?_
      refine x_iload_n 15 dX10_kill_14 rfl rfl ?_
      refine x_iald 16 dX10_kill_15 rfl ar_48 (hk.l48 (by omega)) (xb (hk.n48 (by omega)) (by omega) (by omega)) ?_
      refine x_iload_n 17 dX10_kill_16 rfl rfl ?_
      refine x_icmp_ne 21 20 dX10_kill_17 (by decide) rfl (fun c17 => ?_) (fun c17 => ?_)
      · skip
        refine x_iinc 24 [(1, .ref (T.ad 9 p)), (1, .int t), (1, .int (nI (k + 1)))] dX10_kill_21 rfl (by decide) rfl (xi_1 k) rfl ?_
        refine x_goto 2 dX10_kill_24 (by decide) ?_
        exact ih _ (by rw [← hm]; omega) (k + 1) rfl (by omega) (lt_succ_of (P := fun j => ¬ I 48 p j = t) hv c17)
      · skip
        refine x_vreturn dX10_kill_20 rfl ?_
        have em : iN (I 9 p 16) = m := by rw [hm0.1, iN_nI (by omega)]
        unfold kKil at hq; rw [em] at hq
        rw [cif_t ⟨k, by omega, c17⟩] at hq; exact hq
set_option maxHeartbeats 4000000 in
set_option maxRecDepth 100000 in
theorem c_X10_kill {G : xG} {n : Nat} {Q : Outcome → xS → Prop} {I : xI} {J : xJ} {R Z : xR} {T : xT} {N B : Nat} (hk : KS Z T N B) {p : Nat} (hp : p < 16) {t : Int32} {m : Nat} (hm0 : I 9 p 16 = nI m ∧ m ≤ 16) (hm2 : (∀ j, j < m → ¬ I 48 p j = t) → m < 16) (hn : 1 ≤ n) (hq : Q (.returned none) (kKil I p t, J, R, Z, T)) : xCall G mX10_kill n [.ref (T.ad 9 p), .int t] (I, J, R, Z, T) Q := by
  refine x_met (L0 := [(1, .ref (T.ad 9 p)), (1, .int t), xo]) (by decide +kernel) rfl ⟨Nat.le_of_ble_eq_true rfl, rfl⟩ ?_
  refine x_iconst (v := 0) 1 dX10_kill_0 rfl rfl ?_
  refine x_istore_n 2 [(1, .ref (T.ad 9 p)), (1, .int t), (1, .int 0)] dX10_kill_1 rfl (by decide) rfl ?_
  exact l_X10_kill hk hp hm0 hm2 hq 0 hn (by omega) (fun j hj => absurd hj (by omega))
