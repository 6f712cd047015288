set_option maxRecDepth 100000
theorem nI_m1 {k : Nat} (h : k < 2147483648) : ¬ nI k = -1 := fun e => by
  have h2 := congrArg Int32.toInt e
  rw [nI_toInt (by omega)] at h2
  have h3 : (-1 : Int32).toInt = -1 := by decide
  omega
/-! Path: object i of class 4; its steps, fr and lg -/
def PS (I : xI) (i n : Nat) (fr lg : Nat → Nat) : Prop := I 4 i 2 = nI n ∧ n ≤ 12 ∧ ∀ t, t < n → I 33 i t = nI (fr t) ∧ I 34 i t = nI (lg t) ∧ fr t + lg t ≤ 256 ∧ 1 ≤ lg t ∧ lg t ≤ 14
def pDots (f : Nat → Int32) (fr lg : Nat → Nat) (k m : Nat) : Prop := lg k = m ∧ ∀ j, j < m → f (fr k + j) = 46
def pName (f : Nat → Int32) (fr lg : Nat → Nat) (k : Nat) : Prop := ¬ pDots f fr lg k 1 ∧ ¬ pDots f fr lg k 2
def pLast (f : Nat → Int32) (n : Nat) (fr lg : Nat → Nat) : Prop := 0 < n ∧ pName f fr lg (n - 1)
def prt (g : Nat → Int32) (s : Nat) : Nat → Int64
  | 0 => 0
  | k + 1 => (prt g s k <<< ((8 : Int32).toInt64 &&& 63)) ||| (g (s + k)).toInt64
def pByte (f : Nat → Int32) (fr lg : Nat → Nat) (k j : Nat) : Int32 := if j < lg k then f (fr k + j) &&& 255 else 0
theorem dX5_isDots_0 : decode cX5_isDots 0 = .ok (.aload_n 0, 1) := by decide +kernel
theorem dX5_isDots_1 : decode cX5_isDots 1 = .ok (.getfield 19, 3) := by decide +kernel
theorem dX5_isDots_4 : decode cX5_isDots 4 = .ok (.iload_n 1, 1) := by decide +kernel
theorem dX5_isDots_5 : decode cX5_isDots 5 = .ok (.iaload, 1) := by decide +kernel
theorem dX5_isDots_6 : decode cX5_isDots 6 = .ok (.iload_n 2, 1) := by decide +kernel
theorem dX5_isDots_7 : decode cX5_isDots 7 = .ok (.if_icmp .eq 5, 3) := by decide +kernel
theorem dX5_isDots_10 : decode cX5_isDots 10 = .ok (.iconst 0, 1) := by decide +kernel
theorem dX5_isDots_11 : decode cX5_isDots 11 = .ok (.ireturn, 1) := by decide +kernel
theorem dX5_isDots_12 : decode cX5_isDots 12 = .ok (.iconst 0, 1) := by decide +kernel
theorem dX5_isDots_13 : decode cX5_isDots 13 = .ok (.istore_n 3, 1) := by decide +kernel
theorem dX5_isDots_14 : decode cX5_isDots 14 = .ok (.iload_n 3, 1) := by decide +kernel
theorem dX5_isDots_15 : decode cX5_isDots 15 = .ok (.iload_n 2, 1) := by decide +kernel
theorem dX5_isDots_16 : decode cX5_isDots 16 = .ok (.if_icmp .ge 32, 3) := by decide +kernel
theorem dX5_isDots_19 : decode cX5_isDots 19 = .ok (.aload_n 0, 1) := by decide +kernel
theorem dX5_isDots_20 : decode cX5_isDots 20 = .ok (.getfield 3, 3) := by decide +kernel
theorem dX5_isDots_23 : decode cX5_isDots 23 = .ok (.getfield 26, 3) := by decide +kernel
theorem dX5_isDots_26 : decode cX5_isDots 26 = .ok (.aload_n 0, 1) := by decide +kernel
theorem dX5_isDots_27 : decode cX5_isDots 27 = .ok (.getfield 15, 3) := by decide +kernel
theorem dX5_isDots_30 : decode cX5_isDots 30 = .ok (.iload_n 1, 1) := by decide +kernel
theorem dX5_isDots_31 : decode cX5_isDots 31 = .ok (.iaload, 1) := by decide +kernel
theorem dX5_isDots_32 : decode cX5_isDots 32 = .ok (.iload_n 3, 1) := by decide +kernel
theorem dX5_isDots_33 : decode cX5_isDots 33 = .ok (.iadd, 1) := by decide +kernel
theorem dX5_isDots_34 : decode cX5_isDots 34 = .ok (.baload, 1) := by decide +kernel
theorem dX5_isDots_35 : decode cX5_isDots 35 = .ok (.bipush 46, 2) := by decide +kernel
theorem dX5_isDots_37 : decode cX5_isDots 37 = .ok (.if_icmp .eq 5, 3) := by decide +kernel
theorem dX5_isDots_40 : decode cX5_isDots 40 = .ok (.iconst 0, 1) := by decide +kernel
theorem dX5_isDots_41 : decode cX5_isDots 41 = .ok (.ireturn, 1) := by decide +kernel
theorem dX5_isDots_42 : decode cX5_isDots 42 = .ok (.iinc 3 1, 3) := by decide +kernel
theorem dX5_isDots_45 : decode cX5_isDots 45 = .ok (.goto (-31), 3) := by decide +kernel
theorem dX5_isDots_48 : decode cX5_isDots 48 = .ok (.iconst 1, 1) := by decide +kernel
theorem dX5_isDots_49 : decode cX5_isDots 49 = .ok (.ireturn, 1) := by decide +kernel
set_option maxHeartbeats 4000000 in
set_option maxRecDepth 100000 in
theorem l_X5_isDots {G : xG} {n a b : Nat} {Q : Outcome → xS → Prop} {J : xJ} {Z : xR} {T : xT} {R : xR} {I : xI} {N B : Nat} (hk : KS Z T N B) {i st : Nat} (hi : i < 2) {fr lg : Nat → Nat} (hp : PS I i st fr lg) {k m : Nat} (hk_ : k < st) (hm2 : m ≤ 2) (hl : lg k = m) (hq : Q (.returned (some (.int (b2i (pDots (I 27 0) fr lg k m))))) (I, J, R, Z, T)) (j : Nat) (hn : 1 ≤ n) :
    (j ≤ m) → (∀ q, q < j → I 27 0 (fr k + q) = 46) → X G mX5_isDots n a b Q (I, J, R, Z, T) 14 [(1, .ref (T.ad 4 i)), (1, .int (nI k)), (1, .int (nI m)), (1, .int (nI j))] [] := by
  induction hm : m - j using Nat.strongRecOn generalizing j with
  | _ m_ ih =>
    intro h8 hv
    have hpk := hp.2.2 k hk_
    have hp12 := hp.2.1
    refine x_iload_n 15 dX5_isDots_14 rfl rfl ?_
    refine x_iload_n 16 dX5_isDots_15 rfl rfl ?_
    refine x_icmp_ge 48 19 dX5_isDots_16 (by decide) rfl (fun c16 => ?_) (fun c16 => ?_)
    · skip
      have c16 : m ≤ j := (nI_leI (a := m) (b := j) (by omega) (by omega)).mp c16
      refine x_iconst (v := 1) 49 dX5_isDots_48 rfl rfl ?_
      refine x_zreturn dX5_isDots_49 rfl (Or.inr rfl) ?_
      exact xr1 (P := pDots (I 27 0) fr lg k m) (⟨hl, fun q hq_ => hv q (by omega)⟩) hq
    · skip
      have c16 : ¬ (m ≤ j) := fun h => c16 ((nI_leI (a := m) (b := j) (by omega) (by omega)).mpr h)
      refine x_aload_n 20 dX5_isDots_19 rfl rfl ?_
      refine x_getz 23 dX5_isDots_20 rfl fl_X5_3 (hk.l4 (by omega)) (hk.z4_4 (by omega)) ?_
      refine x_getz 26 dX5_isDots_23 rfl fl_X5_26 (hk.l0 (by omega)) (hk.z0_11 (by omega)) ?_
      refine x_aload_n 27 dX5_isDots_26 rfl rfl ?_
      refine x_getz 30 dX5_isDots_27 rfl fl_X5_15 (hk.l4 (by omega)) (hk.z4_0 (by omega)) ?_
      refine x_iload_n 31 dX5_isDots_30 rfl rfl ?_
      refine x_iald 32 dX5_isDots_31 rfl ar_33 (hk.l33 (by omega)) (xb (hk.n33 (by omega)) (by omega) (by omega)) ?_
      refine x_vi (w := nI (fr k)) hpk.1 ?_
      refine x_iload_n 33 dX5_isDots_32 rfl rfl ?_
      refine x_iaddn (fr k) j 34 dX5_isDots_33 rfl rfl rfl ?_
      refine x_bald 35 dX5_isDots_34 rfl ar_27 (hk.l27 (by omega)) (xb (hk.n27 (by omega)) (by omega) (by omega)) ?_
      refine x_bipush (v := 46) 37 dX5_isDots_35 rfl rfl ?_
      refine x_icmp_eq 42 40 dX5_isDots_37 (by decide) rfl (fun c37 => ?_) (fun c37 => ?_)
      · skip
        refine x_iinc 45 [(1, .ref (T.ad 4 i)), (1, .int (nI k)), (1, .int (nI m)), (1, .int (nI (j + 1)))] dX5_isDots_42 rfl (by decide) rfl (xi_1 j) rfl ?_
        refine x_goto 14 dX5_isDots_45 (by decide) ?_
        exact ih _ (by rw [← hm]; omega) (j + 1) rfl (by omega) (lt_succ_of (P := fun q => I 27 0 (fr k + q) = 46) hv c37)
      · skip
        refine x_iconst (v := 0) 41 dX5_isDots_40 rfl rfl ?_
        refine x_zreturn dX5_isDots_41 rfl (Or.inl rfl) ?_
        exact xr0 (P := pDots (I 27 0) fr lg k m) (fun h => c37 (h.2 j (by omega))) hq
set_option maxHeartbeats 4000000 in
set_option maxRecDepth 100000 in
theorem c_X5_isDots {G : xG} {n : Nat} {Q : Outcome → xS → Prop} {I : xI} {J : xJ} {R Z : xR} {T : xT} {N B : Nat} (hk : KS Z T N B) {i st : Nat} (hi : i < 2) {fr lg : Nat → Nat} (hp : PS I i st fr lg) {k m : Nat} (hk_ : k < st) (hm2 : m ≤ 2) (hn : 1 ≤ n) (hq : Q (.returned (some (.int (b2i (pDots (I 27 0) fr lg k m))))) (I, J, R, Z, T)) : xCall G mX5_isDots n [.ref (T.ad 4 i), .int (nI k), .int (nI m)] (I, J, R, Z, T) Q := by
  refine x_met (L0 := [(1, .ref (T.ad 4 i)), (1, .int (nI k)), (1, .int (nI m)), xo]) (by decide +kernel) rfl ⟨Nat.le_of_ble_eq_true rfl, rfl⟩ ?_
  have hpk := hp.2.2 k hk_
  have hp12 := hp.2.1
  refine x_aload_n 1 dX5_isDots_0 rfl rfl ?_
  refine x_getz 4 dX5_isDots_1 rfl fl_X5_19 (hk.l4 (by omega)) (hk.z4_1 (by omega)) ?_
  refine x_iload_n 5 dX5_isDots_4 rfl rfl ?_
  refine x_iald 6 dX5_isDots_5 rfl ar_34 (hk.l34 (by omega)) (xb (hk.n34 (by omega)) (by omega) (by omega)) ?_
  refine x_vi (w := nI (lg k)) hpk.2.1 ?_
  refine x_iload_n 7 dX5_isDots_6 rfl rfl ?_
  refine x_icmp_eq 12 10 dX5_isDots_7 (by decide) rfl (fun c7 => ?_) (fun c7 => ?_)
  · skip
    have c7 : lg k = m := (nI_eq (a := lg k) (b := m) (by omega) (by omega)).mp c7
    refine x_iconst (v := 0) 13 dX5_isDots_12 rfl rfl ?_
    refine x_istore_n 14 [(1, .ref (T.ad 4 i)), (1, .int (nI k)), (1, .int (nI m)), (1, .int 0)] dX5_isDots_13 rfl (by decide) rfl ?_
    exact l_X5_isDots hk hi hp hk_ hm2 c7 hq 0 hn (by omega) (fun q hq_ => absurd hq_ (by omega))
  · skip
    have c7 : ¬ (lg k = m) := fun h => c7 ((nI_eq (a := lg k) (b := m) (by omega) (by omega)).mpr h)
    refine x_iconst (v := 0) 11 dX5_isDots_10 rfl rfl ?_
    refine x_zreturn dX5_isDots_11 rfl (Or.inl rfl) ?_
    exact xr0 (P := pDots (I 27 0) fr lg k m) (fun h => c7 h.1) hq
theorem dX5_isName_0 : decode cX5_isName 0 = .ok (.iload_n 1, 1) := by decide +kernel
theorem dX5_isName_1 : decode cX5_isName 1 = .ok (.ifCond .lt 25, 3) := by decide +kernel
theorem dX5_isName_4 : decode cX5_isName 4 = .ok (.aload_n 0, 1) := by decide +kernel
theorem dX5_isName_5 : decode cX5_isName 5 = .ok (.iload_n 1, 1) := by decide +kernel
theorem dX5_isName_6 : decode cX5_isName 6 = .ok (.iconst 1, 1) := by decide +kernel
theorem dX5_isName_7 : decode cX5_isName 7 = .ok (.invokevirtual 38, 3) := by decide +kernel
theorem dX5_isName_10 : decode cX5_isName 10 = .ok (.ifCond .ne 16, 3) := by decide +kernel
theorem dX5_isName_13 : decode cX5_isName 13 = .ok (.aload_n 0, 1) := by decide +kernel
theorem dX5_isName_14 : decode cX5_isName 14 = .ok (.iload_n 1, 1) := by decide +kernel
theorem dX5_isName_15 : decode cX5_isName 15 = .ok (.iconst 2, 1) := by decide +kernel
theorem dX5_isName_16 : decode cX5_isName 16 = .ok (.invokevirtual 38, 3) := by decide +kernel
theorem dX5_isName_19 : decode cX5_isName 19 = .ok (.ifCond .ne 7, 3) := by decide +kernel
theorem dX5_isName_22 : decode cX5_isName 22 = .ok (.iconst 1, 1) := by decide +kernel
theorem dX5_isName_23 : decode cX5_isName 23 = .ok (.goto 4, 3) := by decide +kernel
theorem dX5_isName_26 : decode cX5_isName 26 = .ok (.iconst 0, 1) := by decide +kernel
theorem dX5_isName_27 : decode cX5_isName 27 = .ok (.ireturn, 1) := by decide +kernel
set_option maxHeartbeats 4000000 in
set_option maxRecDepth 100000 in
theorem c_X5_isName {G : xG} {n : Nat} {Q : Outcome → xS → Prop} {I : xI} {J : xJ} {R Z : xR} {T : xT} {N B : Nat} (hk : KS Z T N B) {i st : Nat} (hi : i < 2) {fr lg : Nat → Nat} (hp : PS I i st fr lg) {k : Nat} (hk_ : k < st) (hn : 2 ≤ n) (hq : Q (.returned (some (.int (b2i (pName (I 27 0) fr lg k))))) (I, J, R, Z, T)) : xCall G mX5_isName n [.ref (T.ad 4 i), .int (nI k)] (I, J, R, Z, T) Q := by
  refine x_met (L0 := [(1, .ref (T.ad 4 i)), (1, .int (nI k))]) (by decide +kernel) rfl ⟨Nat.le_of_ble_eq_true rfl, rfl⟩ ?_
  have hp12 := hp.2.1
  refine x_iload_n 1 dX5_isName_0 rfl rfl ?_
  refine x_if_lt 26 4 dX5_isName_1 (by decide) rfl (fun c1 => ?_) (fun c1 => ?_)
  · skip
    rw [nI_lt0 (by omega)] at c1
    exact absurd c1 (by simp)
  · skip
    rw [nI_lt0 (by omega)] at c1
    refine x_aload_n 5 dX5_isName_4 rfl rfl ?_
    refine x_iload_n 6 dX5_isName_5 rfl rfl ?_
    refine x_iconst (v := 1) 7 dX5_isName_6 rfl rfl ?_
    refine x_callV (as := [.int (nI k), .int (nI 1)]) (rest := []) (i := i) (n' := n - 1) 10 dX5_isName_7 rfl mv_X5_38 rfl rfl (hk.l4 (by omega)) (xnh rfl) (by omega) (xst (Nat.le_of_ble_eq_true rfl)) (c_X5_isDots hk (by omega) hp (by omega) (by omega) (by omega) ?_)
    change X _ _ _ _ _ _ _ _ _ _
    refine x_if_ne 26 13 dX5_isName_10 (by decide) rfl (fun c10 => ?_) (fun c10 => ?_)
    · skip
      have c10 : pDots (I 27 0) fr lg k 1 := b2i_n0.mp c10
      refine x_iconst (v := 0) 27 dX5_isName_26 rfl rfl ?_
      refine x_zreturn dX5_isName_27 rfl (Or.inl rfl) ?_
      exact xr0 (P := pName (I 27 0) fr lg k) (by rintro ⟨h1, h2⟩; first | exact h1 c10 | exact h2 c19) hq
    · skip
      have c10 : ¬ (pDots (I 27 0) fr lg k 1) := b2i_0.mp c10
      refine x_aload_n 14 dX5_isName_13 rfl rfl ?_
      refine x_iload_n 15 dX5_isName_14 rfl rfl ?_
      refine x_iconst (v := 2) 16 dX5_isName_15 rfl rfl ?_
      refine x_callV (as := [.int (nI k), .int (nI 2)]) (rest := []) (i := i) (n' := n - 1) 19 dX5_isName_16 rfl mv_X5_38 rfl rfl (hk.l4 (by omega)) (xnh rfl) (by omega) (xst (Nat.le_of_ble_eq_true rfl)) (c_X5_isDots hk (by omega) hp (by omega) (by omega) (by omega) ?_)
      change X _ _ _ _ _ _ _ _ _ _
      refine x_if_ne 26 22 dX5_isName_19 (by decide) rfl (fun c19 => ?_) (fun c19 => ?_)
      · skip
        have c19 : pDots (I 27 0) fr lg k 2 := b2i_n0.mp c19
        refine x_iconst (v := 0) 27 dX5_isName_26 rfl rfl ?_
        refine x_zreturn dX5_isName_27 rfl (Or.inl rfl) ?_
        exact xr0 (P := pName (I 27 0) fr lg k) (by rintro ⟨h1, h2⟩; first | exact h1 c10 | exact h2 c19) hq
      · skip
        have c19 : ¬ (pDots (I 27 0) fr lg k 2) := b2i_0.mp c19
        refine x_iconst (v := 1) 23 dX5_isName_22 rfl rfl ?_
        refine x_goto 27 dX5_isName_23 (by decide) ?_
        refine x_zreturn dX5_isName_27 rfl (Or.inr rfl) ?_
        exact xr1 (P := pName (I 27 0) fr lg k) (⟨c10, c19⟩) hq
set_option maxHeartbeats 4000000 in
set_option maxRecDepth 100000 in
theorem c_X5_isNameN {G : xG} {n : Nat} {Q : Outcome → xS → Prop} {I : xI} {J : xJ} {R Z : xR} {T : xT} {i : Nat} (hn : 2 ≤ n) (hq : Q (.returned (some (.int 0))) (I, J, R, Z, T)) : xCall G mX5_isName n [.ref (T.ad 4 i), .int (-1)] (I, J, R, Z, T) Q := by
  refine x_met (L0 := [(1, .ref (T.ad 4 i)), (1, .int (-1))]) (by decide +kernel) rfl ⟨Nat.le_of_ble_eq_true rfl, rfl⟩ ?_
  refine x_iload_n 1 dX5_isName_0 rfl rfl ?_
  refine x_if_lt 26 4 dX5_isName_1 (by decide) rfl (fun c1 => ?_) (fun c1 => ?_)
  · skip
    refine x_iconst (v := 0) 27 dX5_isName_26 rfl rfl ?_
    refine x_zreturn dX5_isName_27 rfl (Or.inl rfl) ?_
    exact hq
  · skip
    exact absurd (by decide) c1
theorem hlast {G : xG} {n : Nat} {Q : Outcome → xS → Prop} {I : xI} {J : xJ} {R Z : xR} {T : xT} {N B : Nat} (hk : KS Z T N B) {i st : Nat} (hi : i < 2) {fr lg : Nat → Nat} (hp : PS I i st fr lg) (hn : 2 ≤ n) (hq : Q (.returned (some (.int (b2i (pLast (I 27 0) st fr lg))))) (I, J, R, Z, T)) :
    xCall G mX5_isName n [.ref (T.ad 4 i), .int (nI st - 1)] (I, J, R, Z, T) Q := by
  by_cases h : st = 0
  · subst h
    have e : nI 0 - 1 = (-1 : Int32) := by decide
    rw [e]
    refine c_X5_isNameN hn ?_
    exact xr0 (P := pLast (I 27 0) 0 fr lg) (fun g => absurd g.1 (by omega)) hq
  · have e : nI st - 1 = nI (st - 1) := pk_sub (a := st) (b := 1) (by omega)
    rw [e]
    refine c_X5_isName hk hi hp (by omega) hn ?_
    rw [b2i_iff (show pName (I 27 0) fr lg (st - 1) ↔ pLast (I 27 0) st fr lg from ⟨fun g => ⟨by omega, g⟩, fun g => g.2⟩)]
    exact hq
theorem dX5_hasLast_0 : decode cX5_hasLast 0 = .ok (.aload_n 0, 1) := by decide +kernel
theorem dX5_hasLast_1 : decode cX5_hasLast 1 = .ok (.aload_n 0, 1) := by decide +kernel
theorem dX5_hasLast_2 : decode cX5_hasLast 2 = .ok (.getfield 22, 3) := by decide +kernel
theorem dX5_hasLast_5 : decode cX5_hasLast 5 = .ok (.iconst 1, 1) := by decide +kernel
theorem dX5_hasLast_6 : decode cX5_hasLast 6 = .ok (.isub, 1) := by decide +kernel
theorem dX5_hasLast_7 : decode cX5_hasLast 7 = .ok (.invokevirtual 41, 3) := by decide +kernel
theorem dX5_hasLast_10 : decode cX5_hasLast 10 = .ok (.ireturn, 1) := by decide +kernel
set_option maxHeartbeats 4000000 in
set_option maxRecDepth 100000 in
theorem c_X5_hasLast {G : xG} {n : Nat} {Q : Outcome → xS → Prop} {I : xI} {J : xJ} {R Z : xR} {T : xT} {N B : Nat} (hk : KS Z T N B) {i st : Nat} (hi : i < 2) {fr lg : Nat → Nat} (hp : PS I i st fr lg) (hn : 3 ≤ n) (hq : Q (.returned (some (.int (b2i (pLast (I 27 0) st fr lg))))) (I, J, R, Z, T)) : xCall G mX5_hasLast n [.ref (T.ad 4 i)] (I, J, R, Z, T) Q := by
  refine x_met (L0 := [(1, .ref (T.ad 4 i))]) (by decide +kernel) rfl ⟨Nat.le_of_ble_eq_true rfl, rfl⟩ ?_
  have hp12 := hp.2.1
  refine x_aload_n 1 dX5_hasLast_0 rfl rfl ?_
  refine x_aload_n 2 dX5_hasLast_1 rfl rfl ?_
  refine x_geti 5 dX5_hasLast_2 rfl fl_X5_22 (hk.l4 (by omega)) ?_
  refine x_vi (w := nI st) hp.1 ?_
  refine x_iconst (v := 1) 6 dX5_hasLast_5 rfl rfl ?_
  refine x_isub 7 dX5_hasLast_6 rfl ?_
  refine x_callV (as := [.int ((nI st) - 1)]) (rest := []) (i := i) (n' := n - 1) 10 dX5_hasLast_7 rfl mv_X5_41 rfl rfl (hk.l4 (by omega)) (xnh rfl) (by omega) (xst (Nat.le_of_ble_eq_true rfl)) (hlast hk hi hp (by omega) ?_)
  change X _ _ _ _ _ _ _ _ _ _
  refine x_zreturn dX5_hasLast_10 rfl (b2i_01 _) ?_
  exact hq
theorem dX5_part_0 : decode cX5_part 0 = .ok (.lconst 0, 1) := by decide +kernel
theorem dX5_part_1 : decode cX5_part 1 = .ok (.lstore 4, 2) := by decide +kernel
theorem dX5_part_3 : decode cX5_part 3 = .ok (.iload_n 2, 1) := by decide +kernel
theorem dX5_part_4 : decode cX5_part 4 = .ok (.istore 6, 2) := by decide +kernel
theorem dX5_part_6 : decode cX5_part 6 = .ok (.iload 6, 2) := by decide +kernel
theorem dX5_part_8 : decode cX5_part 8 = .ok (.iload_n 2, 1) := by decide +kernel
theorem dX5_part_9 : decode cX5_part 9 = .ok (.iload_n 3, 1) := by decide +kernel
theorem dX5_part_10 : decode cX5_part 10 = .ok (.iadd, 1) := by decide +kernel
theorem dX5_part_11 : decode cX5_part 11 = .ok (.if_icmp .ge 54, 3) := by decide +kernel
theorem dX5_part_14 : decode cX5_part 14 = .ok (.lload 4, 2) := by decide +kernel
theorem dX5_part_16 : decode cX5_part 16 = .ok (.bipush 8, 2) := by decide +kernel
theorem dX5_part_18 : decode cX5_part 18 = .ok (.lshl, 1) := by decide +kernel
theorem dX5_part_19 : decode cX5_part 19 = .ok (.iload 6, 2) := by decide +kernel
theorem dX5_part_21 : decode cX5_part 21 = .ok (.aload_n 0, 1) := by decide +kernel
theorem dX5_part_22 : decode cX5_part 22 = .ok (.getfield 19, 3) := by decide +kernel
theorem dX5_part_25 : decode cX5_part 25 = .ok (.iload_n 1, 1) := by decide +kernel
theorem dX5_part_26 : decode cX5_part 26 = .ok (.iaload, 1) := by decide +kernel
theorem dX5_part_27 : decode cX5_part 27 = .ok (.if_icmp .ge 27, 3) := by decide +kernel
theorem dX5_part_30 : decode cX5_part 30 = .ok (.aload_n 0, 1) := by decide +kernel
theorem dX5_part_31 : decode cX5_part 31 = .ok (.getfield 3, 3) := by decide +kernel
theorem dX5_part_34 : decode cX5_part 34 = .ok (.getfield 26, 3) := by decide +kernel
theorem dX5_part_37 : decode cX5_part 37 = .ok (.aload_n 0, 1) := by decide +kernel
theorem dX5_part_38 : decode cX5_part 38 = .ok (.getfield 15, 3) := by decide +kernel
theorem dX5_part_41 : decode cX5_part 41 = .ok (.iload_n 1, 1) := by decide +kernel
theorem dX5_part_42 : decode cX5_part 42 = .ok (.iaload, 1) := by decide +kernel
theorem dX5_part_43 : decode cX5_part 43 = .ok (.iload 6, 2) := by decide +kernel
theorem dX5_part_45 : decode cX5_part 45 = .ok (.iadd, 1) := by decide +kernel
theorem dX5_part_46 : decode cX5_part 46 = .ok (.baload, 1) := by decide +kernel
theorem dX5_part_47 : decode cX5_part 47 = .ok (.sipush 255, 3) := by decide +kernel
theorem dX5_part_50 : decode cX5_part 50 = .ok (.iand, 1) := by decide +kernel
theorem dX5_part_51 : decode cX5_part 51 = .ok (.goto 4, 3) := by decide +kernel
theorem dX5_part_54 : decode cX5_part 54 = .ok (.iconst 0, 1) := by decide +kernel
theorem dX5_part_55 : decode cX5_part 55 = .ok (.i2l, 1) := by decide +kernel
theorem dX5_part_56 : decode cX5_part 56 = .ok (.lor, 1) := by decide +kernel
theorem dX5_part_57 : decode cX5_part 57 = .ok (.lstore 4, 2) := by decide +kernel
theorem dX5_part_59 : decode cX5_part 59 = .ok (.iinc 6 1, 3) := by decide +kernel
theorem dX5_part_62 : decode cX5_part 62 = .ok (.goto (-56), 3) := by decide +kernel
theorem dX5_part_65 : decode cX5_part 65 = .ok (.lload 4, 2) := by decide +kernel
theorem dX5_part_67 : decode cX5_part 67 = .ok (.lreturn, 1) := by decide +kernel
theorem prt_1 {f : Nat → Int32} {fr lg : Nat → Nat} {k s j : Nat} (h : ¬ lg k ≤ s + j) : (prt (pByte f fr lg k) s j <<< ((8 : Int32).toInt64 &&& 63)) ||| (f (fr k + (s + j)) &&& 255).toInt64 = prt (pByte f fr lg k) s (j + 1) := by
  show _ = (prt (pByte f fr lg k) s j <<< _) ||| (pByte f fr lg k (s + j)).toInt64
  unfold pByte; rw [if_pos (by omega)]
theorem prt_0 {f : Nat → Int32} {fr lg : Nat → Nat} {k s j : Nat} (h : lg k ≤ s + j) : (prt (pByte f fr lg k) s j <<< ((8 : Int32).toInt64 &&& 63)) ||| (0 : Int32).toInt64 = prt (pByte f fr lg k) s (j + 1) := by
  show _ = (prt (pByte f fr lg k) s j <<< _) ||| (pByte f fr lg k (s + j)).toInt64
  unfold pByte; rw [if_neg (by omega)]
set_option maxHeartbeats 4000000 in
set_option maxRecDepth 100000 in
theorem l_X5_part {G : xG} {n a b : Nat} {Q : Outcome → xS → Prop} {J : xJ} {Z : xR} {T : xT} {R : xR} {I : xI} {N B : Nat} (hk : KS Z T N B) {i st : Nat} (hi : i < 2) {fr lg : Nat → Nat} (hp : PS I i st fr lg) {k s m : Nat} (hk_ : k < st) (hs : s + m ≤ 14) (hq : Q (.returned (some (.long (prt (pByte (I 27 0) fr lg k) s m)))) (I, J, R, Z, T)) (j : Nat) (y : Int64) (hn : 1 ≤ n) :
    (j ≤ m) → (y = prt (pByte (I 27 0) fr lg k) s j) → X G mX5_part n a b Q (I, J, R, Z, T) 6 [(1, .ref (T.ad 4 i)), (1, .int (nI k)), (1, .int (nI s)), (1, .int (nI m)), (2, .long y), xo, (1, .int (nI (s + j)))] [] := by
  induction hm : m - j using Nat.strongRecOn generalizing j y with
  | _ m_ ih =>
    intro h8 hy
    have hpk := hp.2.2 k hk_
    have hp12 := hp.2.1
    refine x_iload 8 dX5_part_6 rfl rfl ?_
    refine x_iload_n 9 dX5_part_8 rfl rfl ?_
    refine x_iload_n 10 dX5_part_9 rfl rfl ?_
    refine x_iaddn s m 11 dX5_part_10 rfl rfl rfl ?_
    refine x_icmp_ge 65 14 dX5_part_11 (by decide) rfl (fun c11 => ?_) (fun c11 => ?_)
    · skip
      have c11 : s + m ≤ s + j := (nI_leI (a := s + m) (b := s + j) (by omega) (by omega)).mp c11
      refine x_lload 67 dX5_part_65 rfl rfl ?_
      refine x_lreturn dX5_part_67 rfl ?_
      have e : j = m := by omega
      rw [hy, e]; exact hq
    · skip
      have c11 : ¬ (s + m ≤ s + j) := fun h => c11 ((nI_leI (a := s + m) (b := s + j) (by omega) (by omega)).mpr h)
      refine x_lload 16 dX5_part_14 rfl rfl ?_
      refine x_bipush (v := 8) 18 dX5_part_16 rfl rfl ?_
      refine x_lshl 19 dX5_part_18 rfl ?_
      refine x_iload 21 dX5_part_19 rfl rfl ?_
      refine x_aload_n 22 dX5_part_21 rfl rfl ?_
      refine x_getz 25 dX5_part_22 rfl fl_X5_19 (hk.l4 (by omega)) (hk.z4_1 (by omega)) ?_
      refine x_iload_n 26 dX5_part_25 rfl rfl ?_
      refine x_iald 27 dX5_part_26 rfl ar_34 (hk.l34 (by omega)) (xb (hk.n34 (by omega)) (by omega) (by omega)) ?_
      refine x_vi (w := nI (lg k)) hpk.2.1 ?_
      refine x_icmp_ge 54 30 dX5_part_27 (by decide) rfl (fun c27 => ?_) (fun c27 => ?_)
      · skip
        have c27 : lg k ≤ s + j := (nI_leI (a := lg k) (b := s + j) (by omega) (by omega)).mp c27
        refine x_iconst (v := 0) 55 dX5_part_54 rfl rfl ?_
        refine x_i2l 56 dX5_part_55 rfl ?_
        refine x_lor 57 dX5_part_56 rfl ?_
        refine x_nml fun x1 hx1 => ?_
        refine x_lstore 59 [(1, .ref (T.ad 4 i)), (1, .int (nI k)), (1, .int (nI s)), (1, .int (nI m)), (2, .long x1), xo, (1, .int (nI (s + j)))] dX5_part_57 rfl (by decide) rfl ?_
        refine x_iinc 62 [(1, .ref (T.ad 4 i)), (1, .int (nI k)), (1, .int (nI s)), (1, .int (nI m)), (2, .long x1), xo, (1, .int (nI ((s + j) + 1)))] dX5_part_59 rfl (by decide) rfl (xi_1 (s + j)) rfl ?_
        refine x_goto 6 dX5_part_62 (by decide) ?_
        exact ih _ (by rw [← hm]; omega) (j + 1) x1 rfl (by omega) (by rw [hx1, hy]; exact prt_0 c27)
      · skip
        have c27 : ¬ (lg k ≤ s + j) := fun h => c27 ((nI_leI (a := lg k) (b := s + j) (by omega) (by omega)).mpr h)
        refine x_aload_n 31 dX5_part_30 rfl rfl ?_
        refine x_getz 34 dX5_part_31 rfl fl_X5_3 (hk.l4 (by omega)) (hk.z4_4 (by omega)) ?_
        refine x_getz 37 dX5_part_34 rfl fl_X5_26 (hk.l0 (by omega)) (hk.z0_11 (by omega)) ?_
        refine x_aload_n 38 dX5_part_37 rfl rfl ?_
        refine x_getz 41 dX5_part_38 rfl fl_X5_15 (hk.l4 (by omega)) (hk.z4_0 (by omega)) ?_
        refine x_iload_n 42 dX5_part_41 rfl rfl ?_
        refine x_iald 43 dX5_part_42 rfl ar_33 (hk.l33 (by omega)) (xb (hk.n33 (by omega)) (by omega) (by omega)) ?_
        refine x_vi (w := nI (fr k)) hpk.1 ?_
        refine x_iload 45 dX5_part_43 rfl rfl ?_
        refine x_iaddn (fr k) (s + j) 46 dX5_part_45 rfl rfl rfl ?_
        refine x_bald 47 dX5_part_46 rfl ar_27 (hk.l27 (by omega)) (xb (hk.n27 (by omega)) (by omega) (by omega)) ?_
        refine x_sipush (v := 255) 50 dX5_part_47 rfl rfl ?_
        refine x_iand 51 dX5_part_50 rfl ?_
        refine x_goto 55 dX5_part_51 (by decide) ?_
        refine x_i2l 56 dX5_part_55 rfl ?_
        refine x_lor 57 dX5_part_56 rfl ?_
        refine x_nml fun x2 hx2 => ?_
        refine x_lstore 59 [(1, .ref (T.ad 4 i)), (1, .int (nI k)), (1, .int (nI s)), (1, .int (nI m)), (2, .long x2), xo, (1, .int (nI (s + j)))] dX5_part_57 rfl (by decide) rfl ?_
        refine x_iinc 62 [(1, .ref (T.ad 4 i)), (1, .int (nI k)), (1, .int (nI s)), (1, .int (nI m)), (2, .long x2), xo, (1, .int (nI ((s + j) + 1)))] dX5_part_59 rfl (by decide) rfl (xi_1 (s + j)) rfl ?_
        refine x_goto 6 dX5_part_62 (by decide) ?_
        exact ih _ (by rw [← hm]; omega) (j + 1) x2 rfl (by omega) (by rw [hx2, hy]; exact prt_1 c27)
set_option maxHeartbeats 4000000 in
set_option maxRecDepth 100000 in
theorem c_X5_part {G : xG} {n : Nat} {Q : Outcome → xS → Prop} {I : xI} {J : xJ} {R Z : xR} {T : xT} {N B : Nat} (hk : KS Z T N B) {i st : Nat} (hi : i < 2) {fr lg : Nat → Nat} (hp : PS I i st fr lg) {k s m : Nat} (hk_ : k < st) (hs : s + m ≤ 14) (hn : 1 ≤ n) (hq : Q (.returned (some (.long (prt (pByte (I 27 0) fr lg k) s m)))) (I, J, R, Z, T)) : xCall G mX5_part n [.ref (T.ad 4 i), .int (nI k), .int (nI s), .int (nI m)] (I, J, R, Z, T) Q := by
  refine x_met (L0 := [(1, .ref (T.ad 4 i)), (1, .int (nI k)), (1, .int (nI s)), (1, .int (nI m)), xo, xo, xo]) (by decide +kernel) rfl ⟨Nat.le_of_ble_eq_true rfl, rfl⟩ ?_
  have hp12 := hp.2.1
  refine x_lconst (v := 0) 1 dX5_part_0 rfl rfl ?_
  refine x_lstore 3 [(1, .ref (T.ad 4 i)), (1, .int (nI k)), (1, .int (nI s)), (1, .int (nI m)), (2, .long 0), xo, xo] dX5_part_1 rfl (by decide) rfl ?_
  refine x_iload_n 4 dX5_part_3 rfl rfl ?_
  refine x_istore 6 [(1, .ref (T.ad 4 i)), (1, .int (nI k)), (1, .int (nI s)), (1, .int (nI m)), (2, .long 0), xo, (1, .int (nI s))] dX5_part_4 rfl (by decide) rfl ?_
  exact l_X5_part hk hi hp hk_ hs hq 0 0 hn (by omega) rfl
theorem fstI_cases (P : Nat → Prop) (n : Nat) : (fstI P n = -1 ∧ fst0 P 0 n = none) ∨ ∃ s, s < n ∧ P s ∧ fstI P n = nI s ∧ fst0 P 0 n = some s := by
  cases h : fst0 P 0 n with
  | none => left; exact ⟨fstI_none (fun j hj => fst0_no n 0 h j (by omega) (by omega)), rfl⟩
  | some s =>
    right
    obtain ⟨h1, h2, h3, h4⟩ := fst0_spec n 0 s h
    exact ⟨s, by omega, h3, fstI_some (by omega) h3 (fun j hj => h4 j (by omega) hj), rfl⟩
/-- slots lead to inodes that are there -/
def kSl (I : xI) (N : Nat) : Prop := ∀ d s, d < N → s < 512 → kLn (I 41 d s) N
noncomputable def iEntry (I : xI) (d : Nat) (f : Nat → Int32) (t m : Nat) : Option Nat := (fst0 (fun s => ¬ I 41 d s ≤ 0 ∧ nmIs I d s f t m) 0 512).map fun s => iN (I 41 d s) - 1
theorem iSlot_c (I : xI) (d : Nat) (f : Nat → Int32) (t m : Nat) : (iSlot I d f t m = -1 ∧ iEntry I d f t m = none) ∨ ∃ s, s < 512 ∧ (¬ I 41 d s ≤ 0 ∧ nmIs I d s f t m) ∧ iSlot I d f t m = nI s ∧ iEntry I d f t m = some (iN (I 41 d s) - 1) := by
  unfold iSlot iEntry
  rcases fstI_cases (fun s => ¬ I 41 d s ≤ 0 ∧ nmIs I d s f t m) 512 with ⟨h1, h2⟩ | ⟨s, h1, h2, h3, h4⟩
  · left; exact ⟨h1, by rw [h2]; rfl⟩
  · right; exact ⟨s, h1, h2, h3, by rw [h4]; rfl⟩
theorem iN_pos {v : Int32} {m : Nat} (h : kLn v m) (hm : m < 2147483648) (hp : ¬ v ≤ 0) : 1 ≤ iN v := by
  apply Classical.byContradiction
  intro hh
  have e : iN v = 0 := by omega
  have := h.1
  rw [e] at this
  exact hp (by rw [this]; decide)
theorem iEntry_lt {I : xI} {N d t m : Nat} {f : Nat → Int32} {j : Nat} (h : kSl I N) (hd : d < N) (hN : N < 1000) (e : iEntry I d f t m = some j) : j < N := by
  rcases iSlot_c I d f t m with ⟨_, h2⟩ | ⟨s, h1, h2, _, h4⟩
  · rw [h2] at e; cases e
  · rw [h4] at e
    have e2 := Option.some.inj e
    have h3 := h d s hd h1
    have h5 := iN_pos h3 (by omega) h2.1
    have := h3.2
    omega
theorem dX5_entry_0 : decode cX5_entry 0 = .ok (.aload_n 2, 1) := by decide +kernel
theorem dX5_entry_1 : decode cX5_entry 1 = .ok (.aload_n 0, 1) := by decide +kernel
theorem dX5_entry_2 : decode cX5_entry 2 = .ok (.getfield 3, 3) := by decide +kernel
theorem dX5_entry_5 : decode cX5_entry 5 = .ok (.getfield 26, 3) := by decide +kernel
theorem dX5_entry_8 : decode cX5_entry 8 = .ok (.aload_n 0, 1) := by decide +kernel
theorem dX5_entry_9 : decode cX5_entry 9 = .ok (.getfield 15, 3) := by decide +kernel
theorem dX5_entry_12 : decode cX5_entry 12 = .ok (.iload_n 1, 1) := by decide +kernel
theorem dX5_entry_13 : decode cX5_entry 13 = .ok (.iaload, 1) := by decide +kernel
theorem dX5_entry_14 : decode cX5_entry 14 = .ok (.aload_n 0, 1) := by decide +kernel
theorem dX5_entry_15 : decode cX5_entry 15 = .ok (.getfield 19, 3) := by decide +kernel
theorem dX5_entry_18 : decode cX5_entry 18 = .ok (.iload_n 1, 1) := by decide +kernel
theorem dX5_entry_19 : decode cX5_entry 19 = .ok (.iaload, 1) := by decide +kernel
theorem dX5_entry_20 : decode cX5_entry 20 = .ok (.invokevirtual 60, 3) := by decide +kernel
theorem dX5_entry_23 : decode cX5_entry 23 = .ok (.istore_n 3, 1) := by decide +kernel
theorem dX5_entry_24 : decode cX5_entry 24 = .ok (.iload_n 3, 1) := by decide +kernel
theorem dX5_entry_25 : decode cX5_entry 25 = .ok (.iconst (-1), 1) := by decide +kernel
theorem dX5_entry_26 : decode cX5_entry 26 = .ok (.if_icmp .ne 7, 3) := by decide +kernel
theorem dX5_entry_29 : decode cX5_entry 29 = .ok (.aconst_null, 1) := by decide +kernel
theorem dX5_entry_30 : decode cX5_entry 30 = .ok (.goto 19, 3) := by decide +kernel
theorem dX5_entry_33 : decode cX5_entry 33 = .ok (.aload_n 0, 1) := by decide +kernel
theorem dX5_entry_34 : decode cX5_entry 34 = .ok (.getfield 3, 3) := by decide +kernel
theorem dX5_entry_37 : decode cX5_entry 37 = .ok (.getfield 64, 3) := by decide +kernel
theorem dX5_entry_40 : decode cX5_entry 40 = .ok (.aload_n 2, 1) := by decide +kernel
theorem dX5_entry_41 : decode cX5_entry 41 = .ok (.getfield 68, 3) := by decide +kernel
theorem dX5_entry_44 : decode cX5_entry 44 = .ok (.iload_n 3, 1) := by decide +kernel
theorem dX5_entry_45 : decode cX5_entry 45 = .ok (.iaload, 1) := by decide +kernel
theorem dX5_entry_46 : decode cX5_entry 46 = .ok (.iconst 1, 1) := by decide +kernel
theorem dX5_entry_47 : decode cX5_entry 47 = .ok (.isub, 1) := by decide +kernel
theorem dX5_entry_48 : decode cX5_entry 48 = .ok (.aaload, 1) := by decide +kernel
theorem dX5_entry_49 : decode cX5_entry 49 = .ok (.areturn, 1) := by decide +kernel
set_option maxHeartbeats 4000000 in
set_option maxRecDepth 100000 in
theorem c_X5_entry {G : xG} {n : Nat} {Q : Outcome → xS → Prop} {I : xI} {J : xJ} {R Z : xR} {T : xT} {N B : Nat} (hk : KS Z T N B) {i st : Nat} (hi : i < 2) {fr lg : Nat → Nat} (hp : PS I i st fr lg) {k d : Nat} (hk_ : k < st) (hd : d < N) (hsl : kSl I N) (hn : 3 ≤ n) (hq : Q (.returned (some (va_re (T.ad 6) (iEntry I d (I 27 0) (fr k) (lg k))))) (I, J, R, Z, T)) : xCall G mX5_entry n [.ref (T.ad 4 i), .int (nI k), .ref (T.ad 6 d)] (I, J, R, Z, T) Q := by
  refine x_met (L0 := [(1, .ref (T.ad 4 i)), (1, .int (nI k)), (1, .ref (T.ad 6 d)), xo]) (by decide +kernel) rfl ⟨Nat.le_of_ble_eq_true rfl, rfl⟩ ?_
  have hp12 := hp.2.1
  have hpk := hp.2.2 k hk_
  have hnb := hk.nb
  refine x_aload_n 1 dX5_entry_0 rfl rfl ?_
  refine x_aload_n 2 dX5_entry_1 rfl rfl ?_
  refine x_getz 5 dX5_entry_2 rfl fl_X5_3 (hk.l4 (by omega)) (hk.z4_4 (by omega)) ?_
  refine x_getz 8 dX5_entry_5 rfl fl_X5_26 (hk.l0 (by omega)) (hk.z0_11 (by omega)) ?_
  refine x_aload_n 9 dX5_entry_8 rfl rfl ?_
  refine x_getz 12 dX5_entry_9 rfl fl_X5_15 (hk.l4 (by omega)) (hk.z4_0 (by omega)) ?_
  refine x_iload_n 13 dX5_entry_12 rfl rfl ?_
  refine x_iald 14 dX5_entry_13 rfl ar_33 (hk.l33 (by omega)) (xb (hk.n33 (by omega)) (by omega) (by omega)) ?_
  refine x_vi (w := nI (fr k)) hpk.1 ?_
  refine x_aload_n 15 dX5_entry_14 rfl rfl ?_
  refine x_getz 18 dX5_entry_15 rfl fl_X5_19 (hk.l4 (by omega)) (hk.z4_1 (by omega)) ?_
  refine x_iload_n 19 dX5_entry_18 rfl rfl ?_
  refine x_iald 20 dX5_entry_19 rfl ar_34 (hk.l34 (by omega)) (xb (hk.n34 (by omega)) (by omega) (by omega)) ?_
  refine x_vi (w := nI (lg k)) hpk.2.1 ?_
  refine x_callV (as := [.ref (T.ad 27 0), .int (nI (fr k)), .int (nI (lg k))]) (rest := []) (i := d) (n' := n - 1) 23 dX5_entry_20 rfl mv_X5_60 rfl rfl (hk.l6 (by omega)) (xnh rfl) (by omega) (xst (Nat.le_of_ble_eq_true rfl)) (c_X7_slotOf hk (by omega) ar_27 (hk.l27 (by omega)) ⟨(by rw [(hk.n27 (by omega))]; omega), by omega⟩ (by omega) ?_)
  change X _ _ _ _ _ _ _ _ _ _
  rcases iSlot_c I d (I 27 0) (fr k) (lg k) with ⟨e1, e2⟩ | ⟨s_, e1, e2, e3, e4⟩
  · skip
    refine x_vi e1 ?_
    refine x_istore_n 24 [(1, .ref (T.ad 4 i)), (1, .int (nI k)), (1, .ref (T.ad 6 d)), (1, .int (-1))] dX5_entry_23 rfl (by decide) rfl ?_
    refine x_iload_n 25 dX5_entry_24 rfl rfl ?_
    refine x_iconst (v := -1) 26 dX5_entry_25 rfl rfl ?_
    refine x_icmp_ne 33 29 dX5_entry_26 (by decide) rfl (fun c26 => ?_) (fun c26 => ?_)
    · skip
      exfalso; revert c26; decide
    · skip
      refine x_null 30 dX5_entry_29 rfl ?_
      refine x_goto 49 dX5_entry_30 (by decide) ?_
      refine x_asN (T.ad 0) ?_
      refine x_areturn_r dX5_entry_49 rfl (Or.inl ⟨_, rfl⟩) ?_
      rw [e2] at hq; exact hq
  · skip
    refine x_vi e3 ?_
    have hs3 := hsl d s_ hd e1
    have hs4 := hs3.2
    have hs5 := iN_pos hs3 (by omega) e2.1
    refine x_istore_n 24 [(1, .ref (T.ad 4 i)), (1, .int (nI k)), (1, .ref (T.ad 6 d)), (1, .int (nI s_))] dX5_entry_23 rfl (by decide) rfl ?_
    refine x_iload_n 25 dX5_entry_24 rfl rfl ?_
    refine x_iconst (v := -1) 26 dX5_entry_25 rfl rfl ?_
    refine x_icmp_ne 33 29 dX5_entry_26 (by decide) rfl (fun c26 => ?_) (fun c26 => ?_)
    · skip
      refine x_aload_n 34 dX5_entry_33 rfl rfl ?_
      refine x_getz 37 dX5_entry_34 rfl fl_X5_3 (hk.l4 (by omega)) (hk.z4_4 (by omega)) ?_
      refine x_getz 40 dX5_entry_37 rfl fl_X5_64 (hk.l0 (by omega)) (hk.z0_5 (by omega)) ?_
      refine x_aload_n 41 dX5_entry_40 rfl rfl ?_
      refine x_getz 44 dX5_entry_41 rfl fl_X5_68 (hk.l6 (by omega)) (hk.z6_27 (by omega)) ?_
      refine x_iload_n 45 dX5_entry_44 rfl rfl ?_
      refine x_iald 46 dX5_entry_45 rfl ar_41 (hk.l41 (by omega)) (xb (hk.n41 (by omega)) (by omega) (by omega)) ?_
      refine x_vi (w := nI (iN (I 41 d s_))) hs3.1 ?_
      refine x_iconst (v := 1) 47 dX5_entry_46 rfl rfl ?_
      refine x_isubn (iN (I 41 d s_)) 1 48 dX5_entry_47 rfl rfl rfl (by omega) ?_
      refine x_aldz 49 dX5_entry_48 rfl ar_23 rfl (hk.l23 (by omega)) (xb (hk.n23 (by omega)) (by omega) (by omega)) (hk.z23 (by omega)) ?_
      refine x_areturn dX5_entry_49 rfl (Or.inl ⟨_, rfl⟩) ?_
      rw [e4] at hq; exact hq
    · skip
      exact absurd c26 (nI_m1 (by omega))
