set_option maxRecDepth 100000
/-! Process -/
def pActs (I : xI) (p : Nat) : Prop := I 9 p 1 = 1 ∨ I 9 p 1 = 3
def pGrp (I : xI) (p : Nat) : Prop := 0 < I 9 p 8
def pHas (R : xR) (c p o : Nat) : Prop := ∃ k, k < 8 ∧ R c p k = some o
theorem dX10_acts_0 : decode cX10_acts 0 = .ok (.aload_n 0, 1) := by decide +kernel
theorem dX10_acts_1 : decode cX10_acts 1 = .ok (.getfield 28, 3) := by decide +kernel
theorem dX10_acts_4 : decode cX10_acts 4 = .ok (.iconst 1, 1) := by decide +kernel
theorem dX10_acts_5 : decode cX10_acts 5 = .ok (.if_icmp .eq 11, 3) := by decide +kernel
theorem dX10_acts_8 : decode cX10_acts 8 = .ok (.aload_n 0, 1) := by decide +kernel
theorem dX10_acts_9 : decode cX10_acts 9 = .ok (.getfield 28, 3) := by decide +kernel
theorem dX10_acts_12 : decode cX10_acts 12 = .ok (.iconst 3, 1) := by decide +kernel
theorem dX10_acts_13 : decode cX10_acts 13 = .ok (.if_icmp .ne 7, 3) := by decide +kernel
theorem dX10_acts_16 : decode cX10_acts 16 = .ok (.iconst 1, 1) := by decide +kernel
theorem dX10_acts_17 : decode cX10_acts 17 = .ok (.goto 4, 3) := by decide +kernel
theorem dX10_acts_20 : decode cX10_acts 20 = .ok (.iconst 0, 1) := by decide +kernel
theorem dX10_acts_21 : decode cX10_acts 21 = .ok (.ireturn, 1) := by decide +kernel
set_option maxHeartbeats 4000000 in
set_option maxRecDepth 100000 in
theorem c_X10_acts {G : xG} {n : Nat} {Q : Outcome → xS → Prop} {I : xI} {J : xJ} {R Z : xR} {T : xT} {N B p : Nat} (hk : KS Z T N B) (hp : p < 16) (hn : 1 ≤ n) (hq : Q (.returned (some (.int (b2i (pActs I p))))) (I, J, R, Z, T)) : xCall G mX10_acts n [.ref (T.ad 9 p)] (I, J, R, Z, T) Q := by
  refine x_met (L0 := [(1, .ref (T.ad 9 p))]) (by decide +kernel) rfl ⟨Nat.le_of_ble_eq_true rfl, rfl⟩ ?_
  refine x_aload_n 1 dX10_acts_0 rfl rfl ?_
  refine x_geti 4 dX10_acts_1 rfl fl_X10_28 (hk.l9 (by omega)) ?_
  refine x_iconst (v := 1) 5 dX10_acts_4 rfl rfl ?_
  refine x_icmp_eq 16 8 dX10_acts_5 (by decide) rfl (fun c5 => ?_) (fun c5 => ?_)
  · skip
    refine x_iconst (v := 1) 17 dX10_acts_16 rfl rfl ?_
    refine x_goto 21 dX10_acts_17 (by decide) ?_
    refine x_zreturn dX10_acts_21 rfl (Or.inr rfl) ?_
    exact xr1 (P := pActs I p) (by unfold pActs; simp_all) hq
  · skip
    refine x_aload_n 9 dX10_acts_8 rfl rfl ?_
    refine x_geti 12 dX10_acts_9 rfl fl_X10_28 (hk.l9 (by omega)) ?_
    refine x_iconst (v := 3) 13 dX10_acts_12 rfl rfl ?_
    refine x_icmp_ne 20 16 dX10_acts_13 (by decide) rfl (fun c13 => ?_) (fun c13 => ?_)
    · skip
      refine x_iconst (v := 0) 21 dX10_acts_20 rfl rfl ?_
      refine x_zreturn dX10_acts_21 rfl (Or.inl rfl) ?_
      exact xr0 (P := pActs I p) (by unfold pActs; simp_all) hq
    · skip
      refine x_iconst (v := 1) 17 dX10_acts_16 rfl rfl ?_
      refine x_goto 21 dX10_acts_17 (by decide) ?_
      refine x_zreturn dX10_acts_21 rfl (Or.inr rfl) ?_
      exact xr1 (P := pActs I p) (by unfold pActs; simp_all) hq
theorem dX10_hasGroup_0 : decode cX10_hasGroup 0 = .ok (.aload_n 0, 1) := by decide +kernel
theorem dX10_hasGroup_1 : decode cX10_hasGroup 1 = .ok (.getfield 51, 3) := by decide +kernel
theorem dX10_hasGroup_4 : decode cX10_hasGroup 4 = .ok (.ifCond .le 7, 3) := by decide +kernel
theorem dX10_hasGroup_7 : decode cX10_hasGroup 7 = .ok (.iconst 1, 1) := by decide +kernel
theorem dX10_hasGroup_8 : decode cX10_hasGroup 8 = .ok (.goto 4, 3) := by decide +kernel
theorem dX10_hasGroup_11 : decode cX10_hasGroup 11 = .ok (.iconst 0, 1) := by decide +kernel
theorem dX10_hasGroup_12 : decode cX10_hasGroup 12 = .ok (.ireturn, 1) := by decide +kernel
set_option maxHeartbeats 4000000 in
set_option maxRecDepth 100000 in
theorem c_X10_hasGroup {G : xG} {n : Nat} {Q : Outcome → xS → Prop} {I : xI} {J : xJ} {R Z : xR} {T : xT} {N B p : Nat} (hk : KS Z T N B) (hp : p < 16) (hn : 1 ≤ n) (hq : Q (.returned (some (.int (b2i (pGrp I p))))) (I, J, R, Z, T)) : xCall G mX10_hasGroup n [.ref (T.ad 9 p)] (I, J, R, Z, T) Q := by
  refine x_met (L0 := [(1, .ref (T.ad 9 p))]) (by decide +kernel) rfl ⟨Nat.le_of_ble_eq_true rfl, rfl⟩ ?_
  refine x_aload_n 1 dX10_hasGroup_0 rfl rfl ?_
  refine x_geti 4 dX10_hasGroup_1 rfl fl_X10_51 (hk.l9 (by omega)) ?_
  refine x_if_le 11 7 dX10_hasGroup_4 (by decide) rfl (fun c4 => ?_) (fun c4 => ?_)
  · skip
    refine x_iconst (v := 0) 12 dX10_hasGroup_11 rfl rfl ?_
    refine x_zreturn dX10_hasGroup_12 rfl (Or.inl rfl) ?_
    exact xr0 (P := pGrp I p) (by unfold pGrp; simpa using c4) hq
  · skip
    refine x_iconst (v := 1) 8 dX10_hasGroup_7 rfl rfl ?_
    refine x_goto 12 dX10_hasGroup_8 (by decide) ?_
    refine x_zreturn dX10_hasGroup_12 rfl (Or.inr rfl) ?_
    exact xr1 (P := pGrp I p) (by unfold pGrp; simpa using c4) hq
theorem dX10_has_0 : decode cX10_has 0 = .ok (.iconst 0, 1) := by decide +kernel
theorem dX10_has_1 : decode cX10_has 1 = .ok (.istore_n 2, 1) := by decide +kernel
theorem dX10_has_2 : decode cX10_has 2 = .ok (.iload_n 2, 1) := by decide +kernel
theorem dX10_has_3 : decode cX10_has 3 = .ok (.bipush 8, 2) := by decide +kernel
theorem dX10_has_5 : decode cX10_has 5 = .ok (.if_icmp .ge 21, 3) := by decide +kernel
theorem dX10_has_8 : decode cX10_has 8 = .ok (.aload_n 0, 1) := by decide +kernel
theorem dX10_has_9 : decode cX10_has 9 = .ok (.getfield 11, 3) := by decide +kernel
theorem dX10_has_12 : decode cX10_has 12 = .ok (.iload_n 2, 1) := by decide +kernel
theorem dX10_has_13 : decode cX10_has 13 = .ok (.aaload, 1) := by decide +kernel
theorem dX10_has_14 : decode cX10_has 14 = .ok (.aload_n 1, 1) := by decide +kernel
theorem dX10_has_15 : decode cX10_has 15 = .ok (.if_acmp .ne 5, 3) := by decide +kernel
theorem dX10_has_18 : decode cX10_has 18 = .ok (.iconst 1, 1) := by decide +kernel
theorem dX10_has_19 : decode cX10_has 19 = .ok (.ireturn, 1) := by decide +kernel
theorem dX10_has_20 : decode cX10_has 20 = .ok (.iinc 2 1, 3) := by decide +kernel
theorem dX10_has_23 : decode cX10_has 23 = .ok (.goto (-21), 3) := by decide +kernel
theorem dX10_has_26 : decode cX10_has 26 = .ok (.iconst 0, 1) := by decide +kernel
theorem dX10_has_27 : decode cX10_has 27 = .ok (.ireturn, 1) := by decide +kernel
set_option maxHeartbeats 4000000 in
set_option maxRecDepth 100000 in
theorem l_X10_has {G : xG} {n a b : Nat} {Q : Outcome → xS → Prop} {J : xJ} {Z : xR} {T : xT} {I : xI} {R : xR} {N B p o : Nat} (hk : KS Z T N B) (hp : p < 16) (ho : o < 384) (hrl : ∀ k j, k < 8 → R 46 p k = some j → j < 384) (hq : Q (.returned (some (.int (b2i (pHas R 46 p o))))) (I, J, R, Z, T)) (k : Nat) (hn : 1 ≤ n) :
    (k ≤ 8) → (∀ j, j < k → ¬ R 46 p j = some o) → X G mX10_has n a b Q (I, J, R, Z, T) 2 [(1, .ref (T.ad 9 p)), (1, .ref (T.ad 7 o)), (1, .int (nI k))] [] := by
  induction hm : 8 - k using Nat.strongRecOn generalizing k with
  | _ m ih =>
    intro h8 hv
    refine x_iload_n 3 dX10_has_2 rfl rfl ?_
    refine x_bipush (v := 8) 5 dX10_has_3 rfl rfl ?_
    refine x_icmp_ge 26 8 dX10_has_5 (by decide) rfl (fun c5 => ?_) (fun c5 => ?_)
    · skip
      have c5 : 8 ≤ k := (nI_leI (a := 8) (b := k) (by omega) (by omega)).mp c5
      refine x_iconst (v := 0) 27 dX10_has_26 rfl rfl ?_
      refine x_zreturn dX10_has_27 rfl (Or.inl rfl) ?_
      exact xr0 (P := pHas R 46 p o) (fun ⟨j, hj, h⟩ => hv j (by omega) h) hq
    · skip
      have c5 : ¬ (8 ≤ k) := fun h => c5 ((nI_leI (a := 8) (b := k) (by omega) (by omega)).mpr h)
      refine x_aload_n 9 dX10_has_8 rfl rfl ?_
      refine x_getz 12 dX10_has_9 rfl fl_X10_11 (hk.l9 (by omega)) (hk.z9_4 (by omega)) ?_
      refine x_iload_n 13 dX10_has_12 rfl rfl ?_
      refine x_aldr 14 dX10_has_13 rfl ar_46 rfl (hk.l46 (by omega)) (xb (hk.n46 (by omega)) (by omega) (by omega)) ?_
      refine x_aload_n 15 dX10_has_14 rfl rfl ?_
      refine x_asR ?_
      refine x_acmp_ne (c := 7) 20 18 dX10_has_15 (by decide) rfl (fun _ h => hk.l7 (hrl _ _ (by omega) h)) (fun _ h => by cases h; exact (hk.l7 (by omega))) (fun c15 => ?_) (fun c15 => ?_)
      · skip
        refine x_iinc 23 [(1, .ref (T.ad 9 p)), (1, .ref (T.ad 7 o)), (1, .int (nI (k + 1)))] dX10_has_20 rfl (by decide) rfl (xi_1 k) rfl ?_
        refine x_goto 2 dX10_has_23 (by decide) ?_
        exact ih _ (by rw [← hm]; omega) (k + 1) rfl (by omega) (lt_succ_of hv c15)
      · skip
        refine x_iconst (v := 1) 19 dX10_has_18 rfl rfl ?_
        refine x_zreturn dX10_has_19 rfl (Or.inr rfl) ?_
        exact xr1 (P := pHas R 46 p o) (⟨k, by omega, c15⟩) hq
set_option maxHeartbeats 4000000 in
set_option maxRecDepth 100000 in
theorem c_X10_has {G : xG} {n : Nat} {Q : Outcome → xS → Prop} {I : xI} {J : xJ} {R Z : xR} {T : xT} {N B p o : Nat} (hk : KS Z T N B) (hp : p < 16) (ho : o < 384) (hrl : ∀ k j, k < 8 → R 46 p k = some j → j < 384) (hn : 1 ≤ n) (hq : Q (.returned (some (.int (b2i (pHas R 46 p o))))) (I, J, R, Z, T)) : xCall G mX10_has n [.ref (T.ad 9 p), .ref (T.ad 7 o)] (I, J, R, Z, T) Q := by
  refine x_met (L0 := [(1, .ref (T.ad 9 p)), (1, .ref (T.ad 7 o)), xo]) (by decide +kernel) rfl ⟨Nat.le_of_ble_eq_true rfl, rfl⟩ ?_
  refine x_iconst (v := 0) 1 dX10_has_0 rfl rfl ?_
  refine x_istore_n 2 [(1, .ref (T.ad 9 p)), (1, .ref (T.ad 7 o)), (1, .int 0)] dX10_has_1 rfl (by decide) rfl ?_
  exact l_X10_has hk hp ho hrl hq 0 hn (by omega) (fun j hj => absurd hj (by omega))
theorem dX10_hadIt_0 : decode cX10_hadIt 0 = .ok (.iconst 0, 1) := by decide +kernel
theorem dX10_hadIt_1 : decode cX10_hadIt 1 = .ok (.istore_n 2, 1) := by decide +kernel
theorem dX10_hadIt_2 : decode cX10_hadIt 2 = .ok (.iload_n 2, 1) := by decide +kernel
theorem dX10_hadIt_3 : decode cX10_hadIt 3 = .ok (.bipush 8, 2) := by decide +kernel
theorem dX10_hadIt_5 : decode cX10_hadIt 5 = .ok (.if_icmp .ge 21, 3) := by decide +kernel
theorem dX10_hadIt_8 : decode cX10_hadIt 8 = .ok (.aload_n 0, 1) := by decide +kernel
theorem dX10_hadIt_9 : decode cX10_hadIt 9 = .ok (.getfield 17, 3) := by decide +kernel
theorem dX10_hadIt_12 : decode cX10_hadIt 12 = .ok (.iload_n 2, 1) := by decide +kernel
theorem dX10_hadIt_13 : decode cX10_hadIt 13 = .ok (.aaload, 1) := by decide +kernel
theorem dX10_hadIt_14 : decode cX10_hadIt 14 = .ok (.aload_n 1, 1) := by decide +kernel
theorem dX10_hadIt_15 : decode cX10_hadIt 15 = .ok (.if_acmp .ne 5, 3) := by decide +kernel
theorem dX10_hadIt_18 : decode cX10_hadIt 18 = .ok (.iconst 1, 1) := by decide +kernel
theorem dX10_hadIt_19 : decode cX10_hadIt 19 = .ok (.ireturn, 1) := by decide +kernel
theorem dX10_hadIt_20 : decode cX10_hadIt 20 = .ok (.iinc 2 1, 3) := by decide +kernel
theorem dX10_hadIt_23 : decode cX10_hadIt 23 = .ok (.goto (-21), 3) := by decide +kernel
theorem dX10_hadIt_26 : decode cX10_hadIt 26 = .ok (.iconst 0, 1) := by decide +kernel
theorem dX10_hadIt_27 : decode cX10_hadIt 27 = .ok (.ireturn, 1) := by decide +kernel
set_option maxHeartbeats 4000000 in
set_option maxRecDepth 100000 in
theorem l_X10_hadIt {G : xG} {n a b : Nat} {Q : Outcome → xS → Prop} {J : xJ} {Z : xR} {T : xT} {I : xI} {R : xR} {N B p o : Nat} (hk : KS Z T N B) (hp : p < 16) (ho : o < 384) (hrl : ∀ k j, k < 8 → R 47 p k = some j → j < 384) (hq : Q (.returned (some (.int (b2i (pHas R 47 p o))))) (I, J, R, Z, T)) (k : Nat) (hn : 1 ≤ n) :
    (k ≤ 8) → (∀ j, j < k → ¬ R 47 p j = some o) → X G mX10_hadIt n a b Q (I, J, R, Z, T) 2 [(1, .ref (T.ad 9 p)), (1, .ref (T.ad 7 o)), (1, .int (nI k))] [] := by
  induction hm : 8 - k using Nat.strongRecOn generalizing k with
  | _ m ih =>
    intro h8 hv
    refine x_iload_n 3 dX10_hadIt_2 rfl rfl ?_
    refine x_bipush (v := 8) 5 dX10_hadIt_3 rfl rfl ?_
    refine x_icmp_ge 26 8 dX10_hadIt_5 (by decide) rfl (fun c5 => ?_) (fun c5 => ?_)
    · skip
      have c5 : 8 ≤ k := (nI_leI (a := 8) (b := k) (by omega) (by omega)).mp c5
      refine x_iconst (v := 0) 27 dX10_hadIt_26 rfl rfl ?_
      refine x_zreturn dX10_hadIt_27 rfl (Or.inl rfl) ?_
      exact xr0 (P := pHas R 47 p o) (fun ⟨j, hj, h⟩ => hv j (by omega) h) hq
    · skip
      have c5 : ¬ (8 ≤ k) := fun h => c5 ((nI_leI (a := 8) (b := k) (by omega) (by omega)).mpr h)
      refine x_aload_n 9 dX10_hadIt_8 rfl rfl ?_
      refine x_getz 12 dX10_hadIt_9 rfl fl_X10_17 (hk.l9 (by omega)) (hk.z9_13 (by omega)) ?_
      refine x_iload_n 13 dX10_hadIt_12 rfl rfl ?_
      refine x_aldr 14 dX10_hadIt_13 rfl ar_47 rfl (hk.l47 (by omega)) (xb (hk.n47 (by omega)) (by omega) (by omega)) ?_
      refine x_aload_n 15 dX10_hadIt_14 rfl rfl ?_
      refine x_asR ?_
      refine x_acmp_ne (c := 7) 20 18 dX10_hadIt_15 (by decide) rfl (fun _ h => hk.l7 (hrl _ _ (by omega) h)) (fun _ h => by cases h; exact (hk.l7 (by omega))) (fun c15 => ?_) (fun c15 => ?_)
      · skip
        refine x_iinc 23 [(1, .ref (T.ad 9 p)), (1, .ref (T.ad 7 o)), (1, .int (nI (k + 1)))] dX10_hadIt_20 rfl (by decide) rfl (xi_1 k) rfl ?_
        refine x_goto 2 dX10_hadIt_23 (by decide) ?_
        exact ih _ (by rw [← hm]; omega) (k + 1) rfl (by omega) (lt_succ_of hv c15)
      · skip
        refine x_iconst (v := 1) 19 dX10_hadIt_18 rfl rfl ?_
        refine x_zreturn dX10_hadIt_19 rfl (Or.inr rfl) ?_
        exact xr1 (P := pHas R 47 p o) (⟨k, by omega, c15⟩) hq
set_option maxHeartbeats 4000000 in
set_option maxRecDepth 100000 in
theorem c_X10_hadIt {G : xG} {n : Nat} {Q : Outcome → xS → Prop} {I : xI} {J : xJ} {R Z : xR} {T : xT} {N B p o : Nat} (hk : KS Z T N B) (hp : p < 16) (ho : o < 384) (hrl : ∀ k j, k < 8 → R 47 p k = some j → j < 384) (hn : 1 ≤ n) (hq : Q (.returned (some (.int (b2i (pHas R 47 p o))))) (I, J, R, Z, T)) : xCall G mX10_hadIt n [.ref (T.ad 9 p), .ref (T.ad 7 o)] (I, J, R, Z, T) Q := by
  refine x_met (L0 := [(1, .ref (T.ad 9 p)), (1, .ref (T.ad 7 o)), xo]) (by decide +kernel) rfl ⟨Nat.le_of_ble_eq_true rfl, rfl⟩ ?_
  refine x_iconst (v := 0) 1 dX10_hadIt_0 rfl rfl ?_
  refine x_istore_n 2 [(1, .ref (T.ad 9 p)), (1, .ref (T.ad 7 o)), (1, .int 0)] dX10_hadIt_1 rfl (by decide) rfl ?_
  exact l_X10_hadIt hk hp ho hrl hq 0 hn (by omega) (fun j hj => absurd hj (by omega))
theorem dX10_free_0 : decode cX10_free 0 = .ok (.iconst 0, 1) := by decide +kernel
theorem dX10_free_1 : decode cX10_free 1 = .ok (.istore_n 1, 1) := by decide +kernel
theorem dX10_free_2 : decode cX10_free 2 = .ok (.iload_n 1, 1) := by decide +kernel
theorem dX10_free_3 : decode cX10_free 3 = .ok (.bipush 8, 2) := by decide +kernel
theorem dX10_free_5 : decode cX10_free 5 = .ok (.if_icmp .ge 20, 3) := by decide +kernel
theorem dX10_free_8 : decode cX10_free 8 = .ok (.aload_n 0, 1) := by decide +kernel
theorem dX10_free_9 : decode cX10_free 9 = .ok (.getfield 11, 3) := by decide +kernel
theorem dX10_free_12 : decode cX10_free 12 = .ok (.iload_n 1, 1) := by decide +kernel
theorem dX10_free_13 : decode cX10_free 13 = .ok (.aaload, 1) := by decide +kernel
theorem dX10_free_14 : decode cX10_free 14 = .ok (.ifnonnull 5, 3) := by decide +kernel
theorem dX10_free_17 : decode cX10_free 17 = .ok (.iload_n 1, 1) := by decide +kernel
theorem dX10_free_18 : decode cX10_free 18 = .ok (.ireturn, 1) := by decide +kernel
theorem dX10_free_19 : decode cX10_free 19 = .ok (.iinc 1 1, 3) := by decide +kernel
theorem dX10_free_22 : decode cX10_free 22 = .ok (.goto (-20), 3) := by decide +kernel
theorem dX10_free_25 : decode cX10_free 25 = .ok (.iconst (-1), 1) := by decide +kernel
theorem dX10_free_26 : decode cX10_free 26 = .ok (.ireturn, 1) := by decide +kernel
set_option maxHeartbeats 4000000 in
set_option maxRecDepth 100000 in
theorem l_X10_free {G : xG} {n a b : Nat} {Q : Outcome → xS → Prop} {J : xJ} {Z : xR} {T : xT} {I : xI} {R : xR} {N B p : Nat} (hk : KS Z T N B) (hp : p < 16) (hq : Q (.returned (some (.int (fstI (fun k => R 46 p k = none) 8)))) (I, J, R, Z, T)) (k : Nat) (hn : 1 ≤ n) :
    (k ≤ 8) → (∀ j, j < k → ¬ R 46 p j = none) → X G mX10_free n a b Q (I, J, R, Z, T) 2 [(1, .ref (T.ad 9 p)), (1, .int (nI k))] [] := by
  induction hm : 8 - k using Nat.strongRecOn generalizing k with
  | _ m ih =>
    intro h8 hv
    refine x_iload_n 3 dX10_free_2 rfl rfl ?_
    refine x_bipush (v := 8) 5 dX10_free_3 rfl rfl ?_
    refine x_icmp_ge 25 8 dX10_free_5 (by decide) rfl (fun c5 => ?_) (fun c5 => ?_)
    · skip
      have c5 : 8 ≤ k := (nI_leI (a := 8) (b := k) (by omega) (by omega)).mp c5
      refine x_iconst (v := -1) 26 dX10_free_25 rfl rfl ?_
      refine x_ireturn dX10_free_26 rfl ?_
      exact xri (fstI_none (fun j hj => hv j (by omega))).symm hq
    · skip
      have c5 : ¬ (8 ≤ k) := fun h => c5 ((nI_leI (a := 8) (b := k) (by omega) (by omega)).mpr h)
      refine x_aload_n 9 dX10_free_8 rfl rfl ?_
      refine x_getz 12 dX10_free_9 rfl fl_X10_11 (hk.l9 (by omega)) (hk.z9_4 (by omega)) ?_
      refine x_iload_n 13 dX10_free_12 rfl rfl ?_
      refine x_aldr 14 dX10_free_13 rfl ar_46 rfl (hk.l46 (by omega)) (xb (hk.n46 (by omega)) (by omega) (by omega)) ?_
      refine x_ifnonnull 19 17 dX10_free_14 (by decide) rfl (fun j1 c14 => ?_) (fun c14 => ?_)
      · skip
        refine x_iinc 22 [(1, .ref (T.ad 9 p)), (1, .int (nI (k + 1)))] dX10_free_19 rfl (by decide) rfl (xi_1 k) rfl ?_
        refine x_goto 2 dX10_free_22 (by decide) ?_
        exact ih _ (by rw [← hm]; omega) (k + 1) rfl (by omega) (lt_succ_of hv (by rw [c14]; simp))
      · skip
        refine x_iload_n 18 dX10_free_17 rfl rfl ?_
        refine x_ireturn dX10_free_18 rfl ?_
        exact xri (fstI_some (by omega) c14 hv).symm hq
set_option maxHeartbeats 4000000 in
set_option maxRecDepth 100000 in
theorem c_X10_free {G : xG} {n : Nat} {Q : Outcome → xS → Prop} {I : xI} {J : xJ} {R Z : xR} {T : xT} {N B p : Nat} (hk : KS Z T N B) (hp : p < 16) (hn : 1 ≤ n) (hq : Q (.returned (some (.int (fstI (fun k => R 46 p k = none) 8)))) (I, J, R, Z, T)) : xCall G mX10_free n [.ref (T.ad 9 p)] (I, J, R, Z, T) Q := by
  refine x_met (L0 := [(1, .ref (T.ad 9 p)), xo]) (by decide +kernel) rfl ⟨Nat.le_of_ble_eq_true rfl, rfl⟩ ?_
  refine x_iconst (v := 0) 1 dX10_free_0 rfl rfl ?_
  refine x_istore_n 2 [(1, .ref (T.ad 9 p)), (1, .int 0)] dX10_free_1 rfl (by decide) rfl ?_
  exact l_X10_free hk hp hq 0 hn (by omega) (fun j hj => absurd hj (by omega))
theorem dX10_many_0 : decode cX10_many 0 = .ok (.iconst 0, 1) := by decide +kernel
theorem dX10_many_1 : decode cX10_many 1 = .ok (.istore_n 1, 1) := by decide +kernel
theorem dX10_many_2 : decode cX10_many 2 = .ok (.iconst 0, 1) := by decide +kernel
theorem dX10_many_3 : decode cX10_many 3 = .ok (.istore_n 2, 1) := by decide +kernel
theorem dX10_many_4 : decode cX10_many 4 = .ok (.iload_n 2, 1) := by decide +kernel
theorem dX10_many_5 : decode cX10_many 5 = .ok (.bipush 8, 2) := by decide +kernel
theorem dX10_many_7 : decode cX10_many 7 = .ok (.if_icmp .ge 26, 3) := by decide +kernel
theorem dX10_many_10 : decode cX10_many 10 = .ok (.iload_n 1, 1) := by decide +kernel
theorem dX10_many_11 : decode cX10_many 11 = .ok (.aload_n 0, 1) := by decide +kernel
theorem dX10_many_12 : decode cX10_many 12 = .ok (.getfield 11, 3) := by decide +kernel
theorem dX10_many_15 : decode cX10_many 15 = .ok (.iload_n 2, 1) := by decide +kernel
theorem dX10_many_16 : decode cX10_many 16 = .ok (.aaload, 1) := by decide +kernel
theorem dX10_many_17 : decode cX10_many 17 = .ok (.ifnull 7, 3) := by decide +kernel
theorem dX10_many_20 : decode cX10_many 20 = .ok (.iconst 1, 1) := by decide +kernel
theorem dX10_many_21 : decode cX10_many 21 = .ok (.goto 4, 3) := by decide +kernel
theorem dX10_many_24 : decode cX10_many 24 = .ok (.iconst 0, 1) := by decide +kernel
theorem dX10_many_25 : decode cX10_many 25 = .ok (.iadd, 1) := by decide +kernel
theorem dX10_many_26 : decode cX10_many 26 = .ok (.istore_n 1, 1) := by decide +kernel
theorem dX10_many_27 : decode cX10_many 27 = .ok (.iinc 2 1, 3) := by decide +kernel
theorem dX10_many_30 : decode cX10_many 30 = .ok (.goto (-26), 3) := by decide +kernel
theorem dX10_many_33 : decode cX10_many 33 = .ok (.iload_n 1, 1) := by decide +kernel
theorem dX10_many_34 : decode cX10_many 34 = .ok (.ireturn, 1) := by decide +kernel
set_option maxHeartbeats 4000000 in
set_option maxRecDepth 100000 in
theorem l_X10_many {G : xG} {n a b : Nat} {Q : Outcome → xS → Prop} {J : xJ} {Z : xR} {T : xT} {I : xI} {R : xR} {N B p : Nat} (hk : KS Z T N B) (hp : p < 16) (hq : Q (.returned (some (.int (nI (cntN (fun k => ¬ R 46 p k = none) 8))))) (I, J, R, Z, T)) (k s : Nat) (hn : 1 ≤ n) :
    (k ≤ 8) → (s = cntN (fun k => ¬ R 46 p k = none) k) → X G mX10_many n a b Q (I, J, R, Z, T) 4 [(1, .ref (T.ad 9 p)), (1, .int (nI s)), (1, .int (nI k))] [] := by
  induction hm : 8 - k using Nat.strongRecOn generalizing k s with
  | _ m ih =>
    intro h8 hs
    refine x_iload_n 5 dX10_many_4 rfl rfl ?_
    refine x_bipush (v := 8) 7 dX10_many_5 rfl rfl ?_
    refine x_icmp_ge 33 10 dX10_many_7 (by decide) rfl (fun c7 => ?_) (fun c7 => ?_)
    · skip
      have c7 : 8 ≤ k := (nI_leI (a := 8) (b := k) (by omega) (by omega)).mp c7
      refine x_iload_n 34 dX10_many_33 rfl rfl ?_
      refine x_ireturn dX10_many_34 rfl ?_
      have e : k = 8 := by omega
      rw [hs, e]; exact hq
    · skip
      have c7 : ¬ (8 ≤ k) := fun h => c7 ((nI_leI (a := 8) (b := k) (by omega) (by omega)).mpr h)
      refine x_iload_n 11 dX10_many_10 rfl rfl ?_
      refine x_aload_n 12 dX10_many_11 rfl rfl ?_
      refine x_getz 15 dX10_many_12 rfl fl_X10_11 (hk.l9 (by omega)) (hk.z9_4 (by omega)) ?_
      refine x_iload_n 16 dX10_many_15 rfl rfl ?_
      refine x_aldr 17 dX10_many_16 rfl ar_46 rfl (hk.l46 (by omega)) (xb (hk.n46 (by omega)) (by omega) (by omega)) ?_
      refine x_ifnull 24 20 dX10_many_17 (by decide) rfl (fun c17 => ?_) (fun j1 c17 => ?_)
      · skip
        refine x_iconst (v := 0) 25 dX10_many_24 rfl rfl ?_
        refine x_iaddn s 0 26 dX10_many_25 rfl rfl rfl ?_
        refine x_istore_n 27 [(1, .ref (T.ad 9 p)), (1, .int (nI (s + 0))), (1, .int (nI k))] dX10_many_26 rfl (by decide) rfl ?_
        refine x_iinc 30 [(1, .ref (T.ad 9 p)), (1, .int (nI (s + 0))), (1, .int (nI (k + 1)))] dX10_many_27 rfl (by decide) rfl (xi_1 k) rfl ?_
        refine x_goto 4 dX10_many_30 (by decide) ?_
        exact ih _ (by rw [← hm]; omega) (k + 1) (s + 0) rfl (by omega) (by rw [hs, cntN_f (P := (fun k => ¬ R 46 p k = none)) (by simp [c17])]; rfl)
      · skip
        refine x_iconst (v := 1) 21 dX10_many_20 rfl rfl ?_
        refine x_goto 25 dX10_many_21 (by decide) ?_
        refine x_iaddn s 1 26 dX10_many_25 rfl rfl rfl ?_
        refine x_istore_n 27 [(1, .ref (T.ad 9 p)), (1, .int (nI (s + 1))), (1, .int (nI k))] dX10_many_26 rfl (by decide) rfl ?_
        refine x_iinc 30 [(1, .ref (T.ad 9 p)), (1, .int (nI (s + 1))), (1, .int (nI (k + 1)))] dX10_many_27 rfl (by decide) rfl (xi_1 k) rfl ?_
        refine x_goto 4 dX10_many_30 (by decide) ?_
        exact ih _ (by rw [← hm]; omega) (k + 1) (s + 1) rfl (by omega) (by rw [hs, cntN_t (P := (fun k => ¬ R 46 p k = none)) (by simp [c17])])
set_option maxHeartbeats 4000000 in
set_option maxRecDepth 100000 in
theorem c_X10_many {G : xG} {n : Nat} {Q : Outcome → xS → Prop} {I : xI} {J : xJ} {R Z : xR} {T : xT} {N B p : Nat} (hk : KS Z T N B) (hp : p < 16) (hn : 1 ≤ n) (hq : Q (.returned (some (.int (nI (cntN (fun k => ¬ R 46 p k = none) 8))))) (I, J, R, Z, T)) : xCall G mX10_many n [.ref (T.ad 9 p)] (I, J, R, Z, T) Q := by
  refine x_met (L0 := [(1, .ref (T.ad 9 p)), xo, xo]) (by decide +kernel) rfl ⟨Nat.le_of_ble_eq_true rfl, rfl⟩ ?_
  refine x_iconst (v := 0) 1 dX10_many_0 rfl rfl ?_
  refine x_istore_n 2 [(1, .ref (T.ad 9 p)), (1, .int 0), xo] dX10_many_1 rfl (by decide) rfl ?_
  refine x_iconst (v := 0) 3 dX10_many_2 rfl rfl ?_
  refine x_istore_n 4 [(1, .ref (T.ad 9 p)), (1, .int 0), (1, .int 0)] dX10_many_3 rfl (by decide) rfl ?_
  exact l_X10_many hk hp hq 0 0 hn (by omega) rfl
def pEndI (I : xI) (p : Nat) : xI := xu (xu (xu (xu (xu I 9 p 8 0) 9 p 9 0) 9 p 11 0) 9 p 16 0) 9 p 17 0
def pEndR (R : xR) (p : Nat) : xR := xur (xu R 9 p 14 none) 47 p (fun _ => none)
def pClrI (I : xI) (p : Nat) : xI := pEndI (xu (xu (xu (xu (xu I 9 p 1 0) 9 p 2 (-1)) 9 p 3 0) 9 p 6 0) 9 p 10 0) p
def pClrR (R : xR) (p : Nat) : xR := pEndR (xur (xu R 9 p 5 none) 46 p (fun _ => none)) p
theorem dX10_endGroup_0 : decode cX10_endGroup 0 = .ok (.aload_n 0, 1) := by decide +kernel
theorem dX10_endGroup_1 : decode cX10_endGroup 1 = .ok (.iconst 0, 1) := by decide +kernel
theorem dX10_endGroup_2 : decode cX10_endGroup 2 = .ok (.putfield 51, 3) := by decide +kernel
theorem dX10_endGroup_5 : decode cX10_endGroup 5 = .ok (.aload_n 0, 1) := by decide +kernel
theorem dX10_endGroup_6 : decode cX10_endGroup 6 = .ok (.iconst 0, 1) := by decide +kernel
theorem dX10_endGroup_7 : decode cX10_endGroup 7 = .ok (.putfield 54, 3) := by decide +kernel
theorem dX10_endGroup_10 : decode cX10_endGroup 10 = .ok (.aload_n 0, 1) := by decide +kernel
theorem dX10_endGroup_11 : decode cX10_endGroup 11 = .ok (.iconst 0, 1) := by decide +kernel
theorem dX10_endGroup_12 : decode cX10_endGroup 12 = .ok (.putfield 57, 3) := by decide +kernel
theorem dX10_endGroup_15 : decode cX10_endGroup 15 = .ok (.aload_n 0, 1) := by decide +kernel
theorem dX10_endGroup_16 : decode cX10_endGroup 16 = .ok (.iconst 0, 1) := by decide +kernel
theorem dX10_endGroup_17 : decode cX10_endGroup 17 = .ok (.putfield 60, 3) := by decide +kernel
theorem dX10_endGroup_20 : decode cX10_endGroup 20 = .ok (.aload_n 0, 1) := by decide +kernel
theorem dX10_endGroup_21 : decode cX10_endGroup 21 = .ok (.iconst 0, 1) := by decide +kernel
theorem dX10_endGroup_22 : decode cX10_endGroup 22 = .ok (.putfield 63, 3) := by decide +kernel
theorem dX10_endGroup_25 : decode cX10_endGroup 25 = .ok (.aload_n 0, 1) := by decide +kernel
theorem dX10_endGroup_26 : decode cX10_endGroup 26 = .ok (.aconst_null, 1) := by decide +kernel
theorem dX10_endGroup_27 : decode cX10_endGroup 27 = .ok (.putfield 66, 3) := by decide +kernel
theorem dX10_endGroup_30 : decode cX10_endGroup 30 = .ok (.iconst 0, 1) := by decide +kernel
theorem dX10_endGroup_31 : decode cX10_endGroup 31 = .ok (.istore_n 1, 1) := by decide +kernel
theorem dX10_endGroup_32 : decode cX10_endGroup 32 = .ok (.iload_n 1, 1) := by decide +kernel
theorem dX10_endGroup_33 : decode cX10_endGroup 33 = .ok (.bipush 8, 2) := by decide +kernel
theorem dX10_endGroup_35 : decode cX10_endGroup 35 = .ok (.if_icmp .ge 16, 3) := by decide +kernel
theorem dX10_endGroup_38 : decode cX10_endGroup 38 = .ok (.aload_n 0, 1) := by decide +kernel
theorem dX10_endGroup_39 : decode cX10_endGroup 39 = .ok (.getfield 17, 3) := by decide +kernel
theorem dX10_endGroup_42 : decode cX10_endGroup 42 = .ok (.iload_n 1, 1) := by decide +kernel
theorem dX10_endGroup_43 : decode cX10_endGroup 43 = .ok (.aconst_null, 1) := by decide +kernel
theorem dX10_endGroup_44 : decode cX10_endGroup 44 = .ok (.aastore, 1) := by decide +kernel
theorem dX10_endGroup_45 : decode cX10_endGroup 45 = .ok (.iinc 1 1, 3) := by decide +kernel
theorem dX10_endGroup_48 : decode cX10_endGroup 48 = .ok (.goto (-16), 3) := by decide +kernel
theorem dX10_endGroup_51 : decode cX10_endGroup 51 = .ok (.return_, 1) := by decide +kernel
set_option maxHeartbeats 4000000 in
set_option maxRecDepth 100000 in
theorem l_X10_endGroup {G : xG} {n a b : Nat} {Q : Outcome → xS → Prop} {I : xI} {J : xJ} {Z : xR} {T : xT} {R0 : xR} {N B p : Nat} (hk : KS Z T N B) (hp : p < 16) (hx : X G mX10_endGroup n a b Q (I, J, xur R0 47 p (fun _ => none), Z, T) 51 [(1, .ref (T.ad 9 p)), (1, .int (nI 8))] []) (hn : 1 ≤ n) (k : Nat) (R : xR) :
    (0 ≤ k ∧ k ≤ 8) → (R = xfil R0 47 p 0 k (fun _ => none)) → X G mX10_endGroup n a b Q (I, J, R, Z, T) 32 [(1, .ref (T.ad 9 p)), (1, .int (nI k))] [] := by
  induction hm : 8 - k using Nat.strongRecOn generalizing k R with
  | _ m ih =>
    intro h8 hI
    refine x_iload_n 33 dX10_endGroup_32 rfl rfl ?_
    refine x_bipush (v := 8) 35 dX10_endGroup_33 rfl rfl ?_
    refine x_icmp_ge 51 38 dX10_endGroup_35 (by decide) rfl (fun c35 => ?_) (fun c35 => ?_)
    · skip
      have c35 : 8 ≤ k := (nI_leI (a := 8) (b := k) (by omega) (by omega)).mp c35
      have e : k = 8 := by omega
      rw [hI, e]
      refine x_eqR (fun c i k hl hi => ?_) hx
      by_cases e47 : c = 47 ∧ i = p
      · obtain ⟨e1_, e2_⟩ := e47; subst e1_; rw [e2_] at hi ⊢
        have hi2 : k < T.len 47 p := by simpa [xIn] using hi
        rw [(hk.n47 (by omega))] at hi2
        rw [xur_eq, xfil_in (by omega)]
      rw [xur_n e47, xfil_n e47]
    · skip
      have c35 : ¬ (8 ≤ k) := fun h => c35 ((nI_leI (a := 8) (b := k) (by omega) (by omega)).mpr h)
      refine x_aload_n 39 dX10_endGroup_38 rfl rfl ?_
      refine x_getz 42 dX10_endGroup_39 rfl fl_X10_17 (hk.l9 (by omega)) (hk.z9_13 (by omega)) ?_
      refine x_iload_n 43 dX10_endGroup_42 rfl rfl ?_
      refine x_null 44 dX10_endGroup_43 rfl ?_
      refine x_asN (T.ad 7) ?_
      refine x_astr 45 dX10_endGroup_44 rfl ar_47 (Or.inl ⟨by decide, _, _, _, rfl, rfl⟩) (by decide) (hk.l47 (by omega)) (xb (hk.n47 (by omega)) (by omega) (by omega)) (fun _ h => by cases h) ?_
      refine x_nmR fun R1 hR1 => ?_
      refine x_iinc 48 [(1, .ref (T.ad 9 p)), (1, .int (nI (k + 1)))] dX10_endGroup_45 rfl (by decide) rfl (xi_1 k) rfl ?_
      refine x_goto 32 dX10_endGroup_48 (by decide) ?_
      have e : R1 = xfil R0 47 p 0 (k + 1) (fun _ => none) := by
        rw [hR1, hI]
        rw [xfil_step (by omega) (by first | rfl | simp_all)]
      exact ih _ (by rw [← hm]; omega) (k + 1) R1 rfl (by omega) e
set_option maxHeartbeats 4000000 in
set_option maxRecDepth 100000 in
theorem c_X10_endGroup {G : xG} {n : Nat} {Q : Outcome → xS → Prop} {I : xI} {J : xJ} {R Z : xR} {T : xT} {N B p : Nat} (hk : KS Z T N B) (hp : p < 16) (hn : 1 ≤ n) (hq : Q (.returned none) (pEndI I p, J, pEndR R p, Z, T)) : xCall G mX10_endGroup n [.ref (T.ad 9 p)] (I, J, R, Z, T) Q := by
  refine x_met (L0 := [(1, .ref (T.ad 9 p)), xo]) (by decide +kernel) rfl ⟨Nat.le_of_ble_eq_true rfl, rfl⟩ ?_
  refine x_aload_n 1 dX10_endGroup_0 rfl rfl ?_
  refine x_iconst (v := 0) 2 dX10_endGroup_1 rfl rfl ?_
  refine x_puti 5 dX10_endGroup_2 rfl fl_X10_51 rfl rfl (hk.l9 (by omega)) ?_
  refine x_nmI fun I1 hI1 => ?_
  refine x_aload_n 6 dX10_endGroup_5 rfl rfl ?_
  refine x_iconst (v := 0) 7 dX10_endGroup_6 rfl rfl ?_
  refine x_puti 10 dX10_endGroup_7 rfl fl_X10_54 rfl rfl (hk.l9 (by omega)) ?_
  refine x_nmI fun I2 hI2 => ?_
  refine x_aload_n 11 dX10_endGroup_10 rfl rfl ?_
  refine x_iconst (v := 0) 12 dX10_endGroup_11 rfl rfl ?_
  refine x_puti 15 dX10_endGroup_12 rfl fl_X10_57 rfl rfl (hk.l9 (by omega)) ?_
  refine x_nmI fun I3 hI3 => ?_
  refine x_aload_n 16 dX10_endGroup_15 rfl rfl ?_
  refine x_iconst (v := 0) 17 dX10_endGroup_16 rfl rfl ?_
  refine x_puti 20 dX10_endGroup_17 rfl fl_X10_60 rfl rfl (hk.l9 (by omega)) ?_
  refine x_nmI fun I4 hI4 => ?_
  refine x_aload_n 21 dX10_endGroup_20 rfl rfl ?_
  refine x_iconst (v := 0) 22 dX10_endGroup_21 rfl rfl ?_
  refine x_puti 25 dX10_endGroup_22 rfl fl_X10_63 rfl rfl (hk.l9 (by omega)) ?_
  refine x_nmI fun I5 hI5 => ?_
  refine x_aload_n 26 dX10_endGroup_25 rfl rfl ?_
  refine x_null 27 dX10_endGroup_26 rfl ?_
  refine x_asN (T.ad 6) ?_
  refine x_putr 30 dX10_endGroup_27 rfl fl_X10_66 (Or.inl ⟨_, rfl⟩) (hk.l9 (by omega)) (fun _ h => by cases h) ?_
  refine x_nmR fun R1 hR1 => ?_
  refine x_iconst (v := 0) 31 dX10_endGroup_30 rfl rfl ?_
  refine x_istore_n 32 [(1, .ref (T.ad 9 p)), (1, .int 0)] dX10_endGroup_31 rfl (by decide) rfl ?_
  refine l_X10_endGroup hk hp ?_ hn 0 _ (by omega) (xfil_0 _ _ _ _ _).symm
  refine x_vreturn dX10_endGroup_51 rfl ?_
  subst hI5 hI4 hI3 hI2 hI1 hR1; exact hq
theorem dX10_clear_0 : decode cX10_clear 0 = .ok (.aload_n 0, 1) := by decide +kernel
theorem dX10_clear_1 : decode cX10_clear 1 = .ok (.iconst 0, 1) := by decide +kernel
theorem dX10_clear_2 : decode cX10_clear 2 = .ok (.putfield 28, 3) := by decide +kernel
theorem dX10_clear_5 : decode cX10_clear 5 = .ok (.aload_n 0, 1) := by decide +kernel
theorem dX10_clear_6 : decode cX10_clear 6 = .ok (.iconst (-1), 1) := by decide +kernel
theorem dX10_clear_7 : decode cX10_clear 7 = .ok (.putfield 31, 3) := by decide +kernel
theorem dX10_clear_10 : decode cX10_clear 10 = .ok (.aload_n 0, 1) := by decide +kernel
theorem dX10_clear_11 : decode cX10_clear 11 = .ok (.iconst 0, 1) := by decide +kernel
theorem dX10_clear_12 : decode cX10_clear 12 = .ok (.putfield 34, 3) := by decide +kernel
theorem dX10_clear_15 : decode cX10_clear 15 = .ok (.aload_n 0, 1) := by decide +kernel
theorem dX10_clear_16 : decode cX10_clear 16 = .ok (.aconst_null, 1) := by decide +kernel
theorem dX10_clear_17 : decode cX10_clear 17 = .ok (.putfield 37, 3) := by decide +kernel
theorem dX10_clear_20 : decode cX10_clear 20 = .ok (.aload_n 0, 1) := by decide +kernel
theorem dX10_clear_21 : decode cX10_clear 21 = .ok (.iconst 0, 1) := by decide +kernel
theorem dX10_clear_22 : decode cX10_clear 22 = .ok (.putfield 41, 3) := by decide +kernel
theorem dX10_clear_25 : decode cX10_clear 25 = .ok (.aload_n 0, 1) := by decide +kernel
theorem dX10_clear_26 : decode cX10_clear 26 = .ok (.iconst 0, 1) := by decide +kernel
theorem dX10_clear_27 : decode cX10_clear 27 = .ok (.putfield 44, 3) := by decide +kernel
theorem dX10_clear_30 : decode cX10_clear 30 = .ok (.iconst 0, 1) := by decide +kernel
theorem dX10_clear_31 : decode cX10_clear 31 = .ok (.istore_n 1, 1) := by decide +kernel
theorem dX10_clear_32 : decode cX10_clear 32 = .ok (.iload_n 1, 1) := by decide +kernel
theorem dX10_clear_33 : decode cX10_clear 33 = .ok (.bipush 8, 2) := by decide +kernel
theorem dX10_clear_35 : decode cX10_clear 35 = .ok (.if_icmp .ge 16, 3) := by decide +kernel
theorem dX10_clear_38 : decode cX10_clear 38 = .ok (.aload_n 0, 1) := by decide +kernel
theorem dX10_clear_39 : decode cX10_clear 39 = .ok (.getfield 11, 3) := by decide +kernel
theorem dX10_clear_42 : decode cX10_clear 42 = .ok (.iload_n 1, 1) := by decide +kernel
theorem dX10_clear_43 : decode cX10_clear 43 = .ok (.aconst_null, 1) := by decide +kernel
theorem dX10_clear_44 : decode cX10_clear 44 = .ok (.aastore, 1) := by decide +kernel
theorem dX10_clear_45 : decode cX10_clear 45 = .ok (.iinc 1 1, 3) := by decide +kernel
theorem dX10_clear_48 : decode cX10_clear 48 = .ok (.goto (-16), 3) := by decide +kernel
theorem dX10_clear_51 : decode cX10_clear 51 = .ok (.aload_n 0, 1) := by decide +kernel
theorem dX10_clear_52 : decode cX10_clear 52 = .ok (.invokevirtual 48, 3) := by decide +kernel
theorem dX10_clear_55 : decode cX10_clear 55 = .ok (.return_, 1) := by decide +kernel
set_option maxHeartbeats 4000000 in
set_option maxRecDepth 100000 in
theorem l_X10_clear {G : xG} {n a b : Nat} {Q : Outcome → xS → Prop} {I : xI} {J : xJ} {Z : xR} {T : xT} {R0 : xR} {N B p : Nat} (hk : KS Z T N B) (hp : p < 16) (hx : X G mX10_clear n a b Q (I, J, xur R0 46 p (fun _ => none), Z, T) 51 [(1, .ref (T.ad 9 p)), (1, .int (nI 8))] []) (hn : 1 ≤ n) (k : Nat) (R : xR) :
    (0 ≤ k ∧ k ≤ 8) → (R = xfil R0 46 p 0 k (fun _ => none)) → X G mX10_clear n a b Q (I, J, R, Z, T) 32 [(1, .ref (T.ad 9 p)), (1, .int (nI k))] [] := by
  induction hm : 8 - k using Nat.strongRecOn generalizing k R with
  | _ m ih =>
    intro h8 hI
    refine x_iload_n 33 dX10_clear_32 rfl rfl ?_
    refine x_bipush (v := 8) 35 dX10_clear_33 rfl rfl ?_
    refine x_icmp_ge 51 38 dX10_clear_35 (by decide) rfl (fun c35 => ?_) (fun c35 => ?_)
    · skip
      have c35 : 8 ≤ k := (nI_leI (a := 8) (b := k) (by omega) (by omega)).mp c35
      have e : k = 8 := by omega
      rw [hI, e]
      refine x_eqR (fun c i k hl hi => ?_) hx
      by_cases e46 : c = 46 ∧ i = p
      · obtain ⟨e1_, e2_⟩ := e46; subst e1_; rw [e2_] at hi ⊢
        have hi2 : k < T.len 46 p := by simpa [xIn] using hi
        rw [(hk.n46 (by omega))] at hi2
        rw [xur_eq, xfil_in (by omega)]
      rw [xur_n e46, xfil_n e46]
    · skip
      have c35 : ¬ (8 ≤ k) := fun h => c35 ((nI_leI (a := 8) (b := k) (by omega) (by omega)).mpr h)
      refine x_aload_n 39 dX10_clear_38 rfl rfl ?_
      refine x_getz 42 dX10_clear_39 rfl fl_X10_11 (hk.l9 (by omega)) (hk.z9_4 (by omega)) ?_
      refine x_iload_n 43 dX10_clear_42 rfl rfl ?_
      refine x_null 44 dX10_clear_43 rfl ?_
      refine x_asN (T.ad 7) ?_
      refine x_astr 45 dX10_clear_44 rfl ar_46 (Or.inl ⟨by decide, _, _, _, rfl, rfl⟩) (by decide) (hk.l46 (by omega)) (xb (hk.n46 (by omega)) (by omega) (by omega)) (fun _ h => by cases h) ?_
      refine x_nmR fun R1 hR1 => ?_
      refine x_iinc 48 [(1, .ref (T.ad 9 p)), (1, .int (nI (k + 1)))] dX10_clear_45 rfl (by decide) rfl (xi_1 k) rfl ?_
      refine x_goto 32 dX10_clear_48 (by decide) ?_
      have e : R1 = xfil R0 46 p 0 (k + 1) (fun _ => none) := by
        rw [hR1, hI]
        rw [xfil_step (by omega) (by first | rfl | simp_all)]
      exact ih _ (by rw [← hm]; omega) (k + 1) R1 rfl (by omega) e
set_option maxHeartbeats 4000000 in
set_option maxRecDepth 100000 in
theorem c_X10_clear {G : xG} {n : Nat} {Q : Outcome → xS → Prop} {I : xI} {J : xJ} {R Z : xR} {T : xT} {N B p : Nat} (hk : KS Z T N B) (hp : p < 16) (hn : 2 ≤ n) (hq : Q (.returned none) (pClrI I p, J, pClrR R p, Z, T)) : xCall G mX10_clear n [.ref (T.ad 9 p)] (I, J, R, Z, T) Q := by
  refine x_met (L0 := [(1, .ref (T.ad 9 p)), xo]) (by decide +kernel) rfl ⟨Nat.le_of_ble_eq_true rfl, rfl⟩ ?_
  refine x_aload_n 1 dX10_clear_0 rfl rfl ?_
  refine x_iconst (v := 0) 2 dX10_clear_1 rfl rfl ?_
  refine x_puti 5 dX10_clear_2 rfl fl_X10_28 rfl rfl (hk.l9 (by omega)) ?_
  refine x_nmI fun I1 hI1 => ?_
  refine x_aload_n 6 dX10_clear_5 rfl rfl ?_
  refine x_iconst (v := -1) 7 dX10_clear_6 rfl rfl ?_
  refine x_puti 10 dX10_clear_7 rfl fl_X10_31 rfl rfl (hk.l9 (by omega)) ?_
  refine x_nmI fun I2 hI2 => ?_
  refine x_aload_n 11 dX10_clear_10 rfl rfl ?_
  refine x_iconst (v := 0) 12 dX10_clear_11 rfl rfl ?_
  refine x_puti 15 dX10_clear_12 rfl fl_X10_34 rfl rfl (hk.l9 (by omega)) ?_
  refine x_nmI fun I3 hI3 => ?_
  refine x_aload_n 16 dX10_clear_15 rfl rfl ?_
  refine x_null 17 dX10_clear_16 rfl ?_
  refine x_asN (T.ad 6) ?_
  refine x_putr 20 dX10_clear_17 rfl fl_X10_37 (Or.inl ⟨_, rfl⟩) (hk.l9 (by omega)) (fun _ h => by cases h) ?_
  refine x_nmR fun R1 hR1 => ?_
  refine x_aload_n 21 dX10_clear_20 rfl rfl ?_
  refine x_iconst (v := 0) 22 dX10_clear_21 rfl rfl ?_
  refine x_puti 25 dX10_clear_22 rfl fl_X10_41 rfl rfl (hk.l9 (by omega)) ?_
  refine x_nmI fun I4 hI4 => ?_
  refine x_aload_n 26 dX10_clear_25 rfl rfl ?_
  refine x_iconst (v := 0) 27 dX10_clear_26 rfl rfl ?_
  refine x_puti 30 dX10_clear_27 rfl fl_X10_44 rfl rfl (hk.l9 (by omega)) ?_
  refine x_nmI fun I5 hI5 => ?_
  refine x_iconst (v := 0) 31 dX10_clear_30 rfl rfl ?_
  refine x_istore_n 32 [(1, .ref (T.ad 9 p)), (1, .int 0)] dX10_clear_31 rfl (by decide) rfl ?_
  refine l_X10_clear hk hp ?_ (by omega) 0 _ (by omega) (xfil_0 _ _ _ _ _).symm
  refine x_aload_n 52 dX10_clear_51 rfl rfl ?_
  refine x_callV (as := []) (rest := []) (i := p) (n' := n - 1) 55 dX10_clear_52 rfl mv_X10_48 rfl rfl (hk.l9 (by omega)) (xnh rfl) (by omega) (xst (Nat.le_of_ble_eq_true rfl)) (c_X10_endGroup hk (by omega) (by omega) ?_)
  change X _ _ _ _ _ _ _ _ _ _
  refine x_vreturn dX10_clear_55 rfl ?_
  subst hI5 hI4 hI3 hI2 hI1 hR1; exact hq
def pBegR (R : xR) (p : Nat) : xR := xu (xur R 47 p (R 46 p)) 9 p 14 (R 9 p 5)
def pUndR (R : xR) (p : Nat) : xR := pEndR (xu (xur R 46 p (R 47 p)) 9 p 5 (R 9 p 14)) p
theorem dX10_beginGroup_0 : decode cX10_beginGroup 0 = .ok (.aload_n 0, 1) := by decide +kernel
theorem dX10_beginGroup_1 : decode cX10_beginGroup 1 = .ok (.iload_n 1, 1) := by decide +kernel
theorem dX10_beginGroup_2 : decode cX10_beginGroup 2 = .ok (.putfield 54, 3) := by decide +kernel
theorem dX10_beginGroup_5 : decode cX10_beginGroup 5 = .ok (.aload_n 0, 1) := by decide +kernel
theorem dX10_beginGroup_6 : decode cX10_beginGroup 6 = .ok (.getfield 11, 3) := by decide +kernel
theorem dX10_beginGroup_9 : decode cX10_beginGroup 9 = .ok (.iconst 0, 1) := by decide +kernel
theorem dX10_beginGroup_10 : decode cX10_beginGroup 10 = .ok (.aload_n 0, 1) := by decide +kernel
theorem dX10_beginGroup_11 : decode cX10_beginGroup 11 = .ok (.getfield 17, 3) := by decide +kernel
theorem dX10_beginGroup_14 : decode cX10_beginGroup 14 = .ok (.iconst 0, 1) := by decide +kernel
theorem dX10_beginGroup_15 : decode cX10_beginGroup 15 = .ok (.bipush 8, 2) := by decide +kernel
theorem dX10_beginGroup_17 : decode cX10_beginGroup 17 = .ok (.invokestatic 69, 3) := by decide +kernel
theorem dX10_beginGroup_20 : decode cX10_beginGroup 20 = .ok (.aload_n 0, 1) := by decide +kernel
theorem dX10_beginGroup_21 : decode cX10_beginGroup 21 = .ok (.aload_n 0, 1) := by decide +kernel
theorem dX10_beginGroup_22 : decode cX10_beginGroup 22 = .ok (.getfield 37, 3) := by decide +kernel
theorem dX10_beginGroup_25 : decode cX10_beginGroup 25 = .ok (.putfield 66, 3) := by decide +kernel
theorem dX10_beginGroup_28 : decode cX10_beginGroup 28 = .ok (.return_, 1) := by decide +kernel
set_option maxHeartbeats 4000000 in
set_option maxRecDepth 100000 in
theorem c_X10_beginGroup {G : xG} {n : Nat} {Q : Outcome → xS → Prop} {I : xI} {J : xJ} {R Z : xR} {T : xT} {b : Int32} {N B p : Nat} (hk : KS Z T N B) (hp : p < 16) (hrl : ∀ c k j, c = 46 ∨ c = 47 → k < 8 → R c p k = some j → j < 384) (hwl : ∀ k j, k = 5 ∨ k = 14 → R 9 p k = some j → j < N) (hn : 1 ≤ n) (hq : Q (.returned none) (xu I 9 p 9 b, J, pBegR R p, Z, T)) : xCall G mX10_beginGroup n [.ref (T.ad 9 p), .int b] (I, J, R, Z, T) Q := by
  refine x_met (L0 := [(1, .ref (T.ad 9 p)), (1, .int b)]) (by decide +kernel) rfl ⟨Nat.le_of_ble_eq_true rfl, rfl⟩ ?_
  refine x_aload_n 1 dX10_beginGroup_0 rfl rfl ?_
  refine x_iload_n 2 dX10_beginGroup_1 rfl rfl ?_
  refine x_puti 5 dX10_beginGroup_2 rfl fl_X10_54 rfl rfl (hk.l9 (by omega)) ?_
  refine x_nmI fun I1 hI1 => ?_
  refine x_aload_n 6 dX10_beginGroup_5 rfl rfl ?_
  refine x_getz 9 dX10_beginGroup_6 rfl fl_X10_11 (hk.l9 (by omega)) (hk.z9_4 (by omega)) ?_
  refine x_iconst (v := 0) 10 dX10_beginGroup_9 rfl rfl ?_
  refine x_aload_n 11 dX10_beginGroup_10 rfl rfl ?_
  refine x_getz 14 dX10_beginGroup_11 rfl fl_X10_17 (hk.l9 (by omega)) (hk.z9_13 (by omega)) ?_
  refine x_iconst (v := 0) 15 dX10_beginGroup_14 rfl rfl ?_
  refine x_bipush (v := 8) 17 dX10_beginGroup_15 rfl rfl ?_
  refine x_copyr (sp := 0) (dp := 0) (m := 8) 20 dX10_beginGroup_17 rfl cp_X10_69 ar_46 ar_47 ⟨by decide, _, _, _, rfl, rfl⟩ (hk.l46 (by omega)) (hk.l47 (by omega)) (by decide) (by omega) (xst (Nat.le_of_ble_eq_true rfl)) ⟨by omega, by omega, by omega⟩ (by rw [(hk.n46 (by omega))]; omega) (by rw [(hk.n47 (by omega))]; omega) (fun k j h hk8 => hk.l7 (hrl 46 k j (by decide) (by rw [hk.n46 (by omega)] at hk8; exact hk8) h)) ?_
  refine x_nmR fun R1 hR1 => ?_
  refine x_eqR (R' := xur R 47 p (R 46 p)) (fun c i k hl hi => ?_) ?_
  · rw [hR1]
    by_cases e : c = 47 ∧ i = p
    · obtain ⟨rfl, rfl⟩ := e
      have hi2 : k < T.len 47 i := by simpa [xIn] using hi
      rw [hk.n47 hp] at hi2
      rw [xur_eq, xur_eq, pk_cpy_in (by omega) (by omega)]; congr 1; omega
    · rw [xur_n e, xur_n e]
  clear hR1 R1
  refine x_nmR fun R1 hR1 => ?_
  refine x_aload_n 21 dX10_beginGroup_20 rfl rfl ?_
  refine x_aload_n 22 dX10_beginGroup_21 rfl rfl ?_
  refine x_getr 25 dX10_beginGroup_22 rfl fl_X10_37 (hk.l9 (by omega)) ?_
  refine x_putr 28 dX10_beginGroup_25 rfl fl_X10_66 (Or.inl ⟨_, rfl⟩) (hk.l9 (by omega)) (fun j h => hk.l6 (hwl 5 j (by decide) (by rw [hR1, xur_c (by decide)] at h; exact h))) ?_
  refine x_nmR fun R2 hR2 => ?_
  refine x_vreturn dX10_beginGroup_28 rfl ?_
  rw [hR2, hR1, hI1]
  rw [xur_c (by decide)]
  exact hq
theorem dX10_undo_0 : decode cX10_undo 0 = .ok (.aload_n 0, 1) := by decide +kernel
theorem dX10_undo_1 : decode cX10_undo 1 = .ok (.getfield 17, 3) := by decide +kernel
theorem dX10_undo_4 : decode cX10_undo 4 = .ok (.iconst 0, 1) := by decide +kernel
theorem dX10_undo_5 : decode cX10_undo 5 = .ok (.aload_n 0, 1) := by decide +kernel
theorem dX10_undo_6 : decode cX10_undo 6 = .ok (.getfield 11, 3) := by decide +kernel
theorem dX10_undo_9 : decode cX10_undo 9 = .ok (.iconst 0, 1) := by decide +kernel
theorem dX10_undo_10 : decode cX10_undo 10 = .ok (.bipush 8, 2) := by decide +kernel
theorem dX10_undo_12 : decode cX10_undo 12 = .ok (.invokestatic 69, 3) := by decide +kernel
theorem dX10_undo_15 : decode cX10_undo 15 = .ok (.aload_n 0, 1) := by decide +kernel
theorem dX10_undo_16 : decode cX10_undo 16 = .ok (.aload_n 0, 1) := by decide +kernel
theorem dX10_undo_17 : decode cX10_undo 17 = .ok (.getfield 66, 3) := by decide +kernel
theorem dX10_undo_20 : decode cX10_undo 20 = .ok (.putfield 37, 3) := by decide +kernel
theorem dX10_undo_23 : decode cX10_undo 23 = .ok (.aload_n 0, 1) := by decide +kernel
theorem dX10_undo_24 : decode cX10_undo 24 = .ok (.invokevirtual 48, 3) := by decide +kernel
theorem dX10_undo_27 : decode cX10_undo 27 = .ok (.return_, 1) := by decide +kernel
set_option maxHeartbeats 4000000 in
set_option maxRecDepth 100000 in
theorem c_X10_undo {G : xG} {n : Nat} {Q : Outcome → xS → Prop} {I : xI} {J : xJ} {R Z : xR} {T : xT} {N B p : Nat} (hk : KS Z T N B) (hp : p < 16) (hrl : ∀ c k j, c = 46 ∨ c = 47 → k < 8 → R c p k = some j → j < 384) (hwl : ∀ k j, k = 5 ∨ k = 14 → R 9 p k = some j → j < N) (hn : 2 ≤ n) (hq : Q (.returned none) (pEndI I p, J, pUndR R p, Z, T)) : xCall G mX10_undo n [.ref (T.ad 9 p)] (I, J, R, Z, T) Q := by
  refine x_met (L0 := [(1, .ref (T.ad 9 p))]) (by decide +kernel) rfl ⟨Nat.le_of_ble_eq_true rfl, rfl⟩ ?_
  refine x_aload_n 1 dX10_undo_0 rfl rfl ?_
  refine x_getz 4 dX10_undo_1 rfl fl_X10_17 (hk.l9 (by omega)) (hk.z9_13 (by omega)) ?_
  refine x_iconst (v := 0) 5 dX10_undo_4 rfl rfl ?_
  refine x_aload_n 6 dX10_undo_5 rfl rfl ?_
  refine x_getz 9 dX10_undo_6 rfl fl_X10_11 (hk.l9 (by omega)) (hk.z9_4 (by omega)) ?_
  refine x_iconst (v := 0) 10 dX10_undo_9 rfl rfl ?_
  refine x_bipush (v := 8) 12 dX10_undo_10 rfl rfl ?_
  refine x_copyr (sp := 0) (dp := 0) (m := 8) 15 dX10_undo_12 rfl cp_X10_69 ar_47 ar_46 ⟨by decide, _, _, _, rfl, rfl⟩ (hk.l47 (by omega)) (hk.l46 (by omega)) (by decide) (by omega) (xst (Nat.le_of_ble_eq_true rfl)) ⟨by omega, by omega, by omega⟩ (by rw [(hk.n47 (by omega))]; omega) (by rw [(hk.n46 (by omega))]; omega) (fun k j h hk8 => hk.l7 (hrl 47 k j (by decide) (by rw [hk.n47 (by omega)] at hk8; exact hk8) h)) ?_
  refine x_nmR fun R1 hR1 => ?_
  refine x_eqR (R' := xur R 46 p (R 47 p)) (fun c i k hl hi => ?_) ?_
  · rw [hR1]
    by_cases e : c = 46 ∧ i = p
    · obtain ⟨rfl, rfl⟩ := e
      have hi2 : k < T.len 46 i := by simpa [xIn] using hi
      rw [hk.n46 hp] at hi2
      rw [xur_eq, xur_eq, pk_cpy_in (by omega) (by omega)]; congr 1; omega
    · rw [xur_n e, xur_n e]
  clear hR1 R1
  refine x_nmR fun R1 hR1 => ?_
  refine x_aload_n 16 dX10_undo_15 rfl rfl ?_
  refine x_aload_n 17 dX10_undo_16 rfl rfl ?_
  refine x_getr 20 dX10_undo_17 rfl fl_X10_66 (hk.l9 (by omega)) ?_
  refine x_putr 23 dX10_undo_20 rfl fl_X10_37 (Or.inl ⟨_, rfl⟩) (hk.l9 (by omega)) (fun j h => hk.l6 (hwl 14 j (by decide) (by rw [hR1, xur_c (by decide)] at h; exact h))) ?_
  refine x_nmR fun R2 hR2 => ?_
  refine x_aload_n 24 dX10_undo_23 rfl rfl ?_
  refine x_callV (as := []) (rest := []) (i := p) (n' := n - 1) 27 dX10_undo_24 rfl mv_X10_48 rfl rfl (hk.l9 (by omega)) (xnh rfl) (by omega) (xst (Nat.le_of_ble_eq_true rfl)) (c_X10_endGroup hk (by omega) (by omega) ?_)
  change X _ _ _ _ _ _ _ _ _ _
  refine x_vreturn dX10_undo_27 rfl ?_
  rw [hR2, hR1, xur_c (by decide)]
  exact hq
