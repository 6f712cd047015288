set_option maxRecDepth 100000
section XSW
variable {G : xG} {M : xM} {n a b : Nat} {Q : Outcome → xS → Prop} {z : xS} {pc : Nat} {L : List (Nat × Value)} {st : List Value} {x : Int32}
theorem x_tin (k : Nat) {dflt hi off : Int} {offs : Array Int} {len : Nat} (tgt : Nat) (hd : decode M.cc pc = .ok (.tableswitch dflt 0 hi offs, len)) (hx : x = nI k) (hk : k < 100) (hh : ¬ hi < (k : Int)) (ho : offs[k]? = some off) (ht : (pc : Int) + off = (tgt : Int)) (kk : X G M n a b Q z tgt L st) : X G M n a b Q z pc L (.int x :: st) := by
  have e : x.toInt = (k : Int) := by rw [hx]; exact nI_toInt (by omega)
  exact X.one _ (fun hC _ _ k' => lv_tableIn hC.xx hC.bb hd (by omega) (by omega) (by rw [e]; simpa using ho) ht k') kk
theorem x_tout {dflt : Int} {hi : Nat} {offs : Array Int} {len : Nat} (tgt : Nat) (hd : decode M.cc pc = .ok (.tableswitch dflt 0 hi offs, len)) (hhi : hi < 100) (hx : ∀ k, k ≤ hi → ¬ x = nI k) (ht : (pc : Int) + dflt = (tgt : Int)) (kk : X G M n a b Q z tgt L st) : X G M n a b Q z pc L (.int x :: st) := by
  refine X.one _ (fun hC _ _ k' => lv_tableOut hC.xx hC.bb hd ?_ ht k') kk
  apply Classical.byContradiction
  intro h
  refine hx x.toInt.toNat (by omega) ?_
  apply Int32.toInt_inj.mp
  rw [nI_toInt (by omega)]
  omega
end XSW
/-- references lead to objects that the kernel has -/
def kRef (R : xR) (N : Nat) : Prop := (∀ c p k o, c = 46 ∨ c = 47 → R c p k = some o → o < 384) ∧ (∀ p k i, k = 5 ∨ k = 14 → R 9 p k = some i → i < N) ∧ (∀ o i, R 7 o 0 = some i → i < N) ∧ (∀ k o, R 29 0 k = some o → o < 384)
theorem kRef.row {R : xR} {N : Nat} (h : kRef R N) {p k o : Nat} (e : R 46 p k = some o) : o < 384 := h.1 46 p k o (Or.inl rfl) e
theorem kRef.had {R : xR} {N : Nat} (h : kRef R N) {p k o : Nat} (e : R 47 p k = some o) : o < 384 := h.1 47 p k o (Or.inr rfl) e
theorem kRef.wk {R : xR} {N : Nat} (h : kRef R N) {p i : Nat} (e : R 9 p 5 = some i) : i < N := h.2.1 p 5 i (Or.inl rfl) e
theorem kRef.hw {R : xR} {N : Nat} (h : kRef R N) {p i : Nat} (e : R 9 p 14 = some i) : i < N := h.2.1 p 14 i (Or.inr rfl) e
theorem kRef.of {R : xR} {N : Nat} (h : kRef R N) {o i : Nat} (e : R 7 o 0 = some i) : i < N := h.2.2.1 o i e
theorem kRef.gr {R : xR} {N : Nat} (h : kRef R N) {k o : Nat} (e : R 29 0 k = some o) : o < 384 := h.2.2.2 k o e
def kTh1 (I : xI) (R : xR) (o p : Nat) : Prop := (pActs I p ∧ pHas R 46 p o) ∨ (pGrp I p ∧ pHas R 47 p o)
/-- whether an opening is there -/
def kThere (I : xI) (R : xR) (o : Nat) : Prop := ∃ p, p < 16 ∧ kTh1 I R o p
def kPipe1 (I : xI) (R : xR) (k : Int32) (o : Nat) : Prop := oPipe R o ∧ I 7 o 1 = k ∧ kThere I R o
def kHasPipe (I : xI) (R : xR) (k : Int32) : Prop := ∃ o, o < 384 ∧ kPipe1 I R k o
def kSide1 (I : xI) (R : xR) (k s : Int32) (p q : Nat) : Prop := ∃ o, R 46 p q = some o ∧ oPipe R o ∧ I 7 o 1 = k ∧ I 7 o 2 = s
def kHasSide (I : xI) (R : xR) (k s : Int32) : Prop := ∃ p, p < 16 ∧ pActs I p ∧ ∃ q, q < 8 ∧ kSide1 I R k s p q
def kUse1 (I : xI) (R : xR) (i p : Nat) : Prop := (pActs I p ∧ R 9 p 5 = some i) ∨ (pGrp I p ∧ R 9 p 14 = some i)
def kUsed (I : xI) (R : xR) (i : Nat) : Prop := (∃ p, p < 16 ∧ kUse1 I R i p) ∨ ∃ o, o < 384 ∧ R 7 o 0 = some i ∧ kThere I R o
theorem dX1_isIn_0 : decode cX1_isIn 0 = .ok (.iload_n 0, 1) := by decide +kernel
theorem dX1_isIn_1 : decode cX1_isIn 1 = .ok (.iload_n 1, 1) := by decide +kernel
theorem dX1_isIn_2 : decode cX1_isIn 2 = .ok (.if_icmp .lt 12, 3) := by decide +kernel
theorem dX1_isIn_5 : decode cX1_isIn 5 = .ok (.iload_n 0, 1) := by decide +kernel
theorem dX1_isIn_6 : decode cX1_isIn 6 = .ok (.iload_n 2, 1) := by decide +kernel
theorem dX1_isIn_7 : decode cX1_isIn 7 = .ok (.if_icmp .gt 7, 3) := by decide +kernel
theorem dX1_isIn_10 : decode cX1_isIn 10 = .ok (.iconst 1, 1) := by decide +kernel
theorem dX1_isIn_11 : decode cX1_isIn 11 = .ok (.goto 4, 3) := by decide +kernel
theorem dX1_isIn_14 : decode cX1_isIn 14 = .ok (.iconst 0, 1) := by decide +kernel
theorem dX1_isIn_15 : decode cX1_isIn 15 = .ok (.ireturn, 1) := by decide +kernel
set_option maxHeartbeats 4000000 in
set_option maxRecDepth 100000 in
theorem c_X1_isIn {G : xG} {n : Nat} {Q : Outcome → xS → Prop} {I : xI} {J : xJ} {R Z : xR} {T : xT} {v p q : Int32} (hn : 1 ≤ n) (hq : Q (.returned (some (.int (b2i (p ≤ v ∧ v ≤ q))))) (I, J, R, Z, T)) : xCall G mX1_isIn n [.int v, .int p, .int q] (I, J, R, Z, T) Q := by
  refine x_met (L0 := [(1, .int v), (1, .int p), (1, .int q)]) (by decide +kernel) rfl ⟨Nat.le_of_ble_eq_true rfl, rfl⟩ ?_
  refine x_iload_n 1 dX1_isIn_0 rfl rfl ?_
  refine x_iload_n 2 dX1_isIn_1 rfl rfl ?_
  refine x_icmp_lt 14 5 dX1_isIn_2 (by decide) rfl (fun c2 => ?_) (fun c2 => ?_)
  · skip
    refine x_iconst (v := 0) 15 dX1_isIn_14 rfl rfl ?_
    refine x_zreturn dX1_isIn_15 rfl (Or.inl rfl) ?_
    exact xr0 (P := p ≤ v ∧ v ≤ q) (by rintro ⟨h1, h2⟩; first | exact absurd h1 (by simpa using c2) | exact absurd h2 (by simpa using c7)) hq
  · skip
    refine x_iload_n 6 dX1_isIn_5 rfl rfl ?_
    refine x_iload_n 7 dX1_isIn_6 rfl rfl ?_
    refine x_icmp_gt 14 10 dX1_isIn_7 (by decide) rfl (fun c7 => ?_) (fun c7 => ?_)
    · skip
      refine x_iconst (v := 0) 15 dX1_isIn_14 rfl rfl ?_
      refine x_zreturn dX1_isIn_15 rfl (Or.inl rfl) ?_
      exact xr0 (P := p ≤ v ∧ v ≤ q) (by rintro ⟨h1, h2⟩; first | exact absurd h1 (by simpa using c2) | exact absurd h2 (by simpa using c7)) hq
    · skip
      refine x_iconst (v := 1) 11 dX1_isIn_10 rfl rfl ?_
      refine x_goto 15 dX1_isIn_11 (by decide) ?_
      refine x_zreturn dX1_isIn_15 rfl (Or.inr rfl) ?_
      exact xr1 (P := p ≤ v ∧ v ≤ q) (⟨by simpa using c2, by simpa using c7⟩) hq
theorem dX1_isThere_0 : decode cX1_isThere 0 = .ok (.aload_n 0, 1) := by decide +kernel
theorem dX1_isThere_1 : decode cX1_isThere 1 = .ok (.getfield 39, 3) := by decide +kernel
theorem dX1_isThere_4 : decode cX1_isThere 4 = .ok (.astore_n 2, 1) := by decide +kernel
theorem dX1_isThere_5 : decode cX1_isThere 5 = .ok (.aload_n 2, 1) := by decide +kernel
theorem dX1_isThere_6 : decode cX1_isThere 6 = .ok (.arraylength, 1) := by decide +kernel
theorem dX1_isThere_7 : decode cX1_isThere 7 = .ok (.istore_n 3, 1) := by decide +kernel
theorem dX1_isThere_8 : decode cX1_isThere 8 = .ok (.iconst 0, 1) := by decide +kernel
theorem dX1_isThere_9 : decode cX1_isThere 9 = .ok (.istore 4, 2) := by decide +kernel
theorem dX1_isThere_11 : decode cX1_isThere 11 = .ok (.iload 4, 2) := by decide +kernel
theorem dX1_isThere_13 : decode cX1_isThere 13 = .ok (.iload_n 3, 1) := by decide +kernel
theorem dX1_isThere_14 : decode cX1_isThere 14 = .ok (.if_icmp .ge 51, 3) := by decide +kernel
theorem dX1_isThere_17 : decode cX1_isThere 17 = .ok (.aload_n 2, 1) := by decide +kernel
theorem dX1_isThere_18 : decode cX1_isThere 18 = .ok (.iload 4, 2) := by decide +kernel
theorem dX1_isThere_20 : decode cX1_isThere 20 = .ok (.aaload, 1) := by decide +kernel
theorem dX1_isThere_21 : decode cX1_isThere 21 = .ok (.astore 5, 2) := by decide +kernel
theorem dX1_isThere_23 : decode cX1_isThere 23 = .ok (.aload 5, 2) := by decide +kernel
theorem dX1_isThere_25 : decode cX1_isThere 25 = .ok (.invokevirtual 223, 3) := by decide +kernel
theorem dX1_isThere_28 : decode cX1_isThere 28 = .ok (.ifCond .eq 12, 3) := by decide +kernel
theorem dX1_isThere_31 : decode cX1_isThere 31 = .ok (.aload 5, 2) := by decide +kernel
theorem dX1_isThere_33 : decode cX1_isThere 33 = .ok (.aload_n 1, 1) := by decide +kernel
theorem dX1_isThere_34 : decode cX1_isThere 34 = .ok (.invokevirtual 227, 3) := by decide +kernel
theorem dX1_isThere_37 : decode cX1_isThere 37 = .ok (.ifCond .ne 20, 3) := by decide +kernel
theorem dX1_isThere_40 : decode cX1_isThere 40 = .ok (.aload 5, 2) := by decide +kernel
theorem dX1_isThere_42 : decode cX1_isThere 42 = .ok (.invokevirtual 231, 3) := by decide +kernel
theorem dX1_isThere_45 : decode cX1_isThere 45 = .ok (.ifCond .eq 14, 3) := by decide +kernel
theorem dX1_isThere_48 : decode cX1_isThere 48 = .ok (.aload 5, 2) := by decide +kernel
theorem dX1_isThere_50 : decode cX1_isThere 50 = .ok (.aload_n 1, 1) := by decide +kernel
theorem dX1_isThere_51 : decode cX1_isThere 51 = .ok (.invokevirtual 234, 3) := by decide +kernel
theorem dX1_isThere_54 : decode cX1_isThere 54 = .ok (.ifCond .eq 5, 3) := by decide +kernel
theorem dX1_isThere_57 : decode cX1_isThere 57 = .ok (.iconst 1, 1) := by decide +kernel
theorem dX1_isThere_58 : decode cX1_isThere 58 = .ok (.ireturn, 1) := by decide +kernel
theorem dX1_isThere_59 : decode cX1_isThere 59 = .ok (.iinc 4 1, 3) := by decide +kernel
theorem dX1_isThere_62 : decode cX1_isThere 62 = .ok (.goto (-51), 3) := by decide +kernel
theorem dX1_isThere_65 : decode cX1_isThere 65 = .ok (.iconst 0, 1) := by decide +kernel
theorem dX1_isThere_66 : decode cX1_isThere 66 = .ok (.ireturn, 1) := by decide +kernel
set_option maxHeartbeats 4000000 in
set_option maxRecDepth 100000 in
theorem l_X1_isThere {G : xG} {n a b : Nat} {Q : Outcome → xS → Prop} {J : xJ} {Z : xR} {T : xT} {I : xI} {R : xR} {N B : Nat} (hk : KS Z T N B) (hr : kRef R N) {o : Nat} (ho : o < 384) (hq : Q (.returned (some (.int (b2i (kThere I R o))))) (I, J, R, Z, T)) (k : Nat) (hn : 2 ≤ n) :
    (k ≤ 16) → (∀ p, p < k → ¬ kTh1 I R o p) → X G mX1_isThere n a b Q (I, J, R, Z, T) 11 [(1, .ref (T.ad 0 0)), (1, .ref (T.ad 7 o)), (1, .ref (T.ad 26 0)), (1, .int (nI 16)), (1, .int (nI k)), xo] [] := by
  induction hm : 16 - k using Nat.strongRecOn generalizing k with
  | _ m_ ih =>
    intro h8 hv
    refine x_iload 13 dX1_isThere_11 rfl rfl ?_
    refine x_iload_n 14 dX1_isThere_13 rfl rfl ?_
    refine x_icmp_ge 65 17 dX1_isThere_14 (by decide) rfl (fun c14 => ?_) (fun c14 => ?_)
    · skip
      have c14 : 16 ≤ k := (nI_leI (a := 16) (b := k) (by omega) (by omega)).mp c14
      refine x_iconst (v := 0) 66 dX1_isThere_65 rfl rfl ?_
      refine x_zreturn dX1_isThere_66 rfl (Or.inl rfl) ?_
      exact xr0 (P := kThere I R o) (fun ⟨p, hp, h⟩ => hv p (by omega) h) hq
    · skip
      have c14 : ¬ (16 ≤ k) := fun h => c14 ((nI_leI (a := 16) (b := k) (by omega) (by omega)).mpr h)
      refine x_aload_n 18 dX1_isThere_17 rfl rfl ?_
      refine x_iload 20 dX1_isThere_18 rfl rfl ?_
      refine x_aldz 21 dX1_isThere_20 rfl ar_26 rfl (hk.l26 (by omega)) (xb (hk.n26 (by omega)) (by omega) (by omega)) (hk.z26 (by omega)) ?_
      refine x_astore 23 [(1, .ref (T.ad 0 0)), (1, .ref (T.ad 7 o)), (1, .ref (T.ad 26 0)), (1, .int (nI 16)), (1, .int (nI k)), (1, .ref (T.ad 9 k))] dX1_isThere_21 rfl (by decide) rfl ?_
      refine x_aload 25 dX1_isThere_23 rfl rfl ?_
      refine x_callV (as := []) (rest := []) (i := k) (n' := n - 1) 28 dX1_isThere_25 rfl mv_X1_223 rfl rfl (hk.l9 (by omega)) (xnh rfl) (by omega) (xst (Nat.le_of_ble_eq_true rfl)) (c_X10_acts hk (by omega) (by omega) ?_)
      change X _ _ _ _ _ _ _ _ _ _
      refine x_if_eq 40 31 dX1_isThere_28 (by decide) rfl (fun c28 => ?_) (fun c28 => ?_)
      · skip
        have c28 : ¬ (pActs I k) := b2i_0.mp c28
        refine x_aload 42 dX1_isThere_40 rfl rfl ?_
        refine x_callV (as := []) (rest := []) (i := k) (n' := n - 1) 45 dX1_isThere_42 rfl mv_X1_231 rfl rfl (hk.l9 (by omega)) (xnh rfl) (by omega) (xst (Nat.le_of_ble_eq_true rfl)) (c_X10_hasGroup hk (by omega) (by omega) ?_)
        change X _ _ _ _ _ _ _ _ _ _
        refine x_if_eq 59 48 dX1_isThere_45 (by decide) rfl (fun c45 => ?_) (fun c45 => ?_)
        · skip
          have c45 : ¬ (pGrp I k) := b2i_0.mp c45
          refine x_iinc 62 [(1, .ref (T.ad 0 0)), (1, .ref (T.ad 7 o)), (1, .ref (T.ad 26 0)), (1, .int (nI 16)), (1, .int (nI (k + 1))), (1, .ref (T.ad 9 k))] dX1_isThere_59 rfl (by decide) rfl (xi_1 k) rfl ?_
          refine x_goto 11 dX1_isThere_62 (by decide) ?_
          refine x_fgt [(1, .ref (T.ad 0 0)), (1, .ref (T.ad 7 o)), (1, .ref (T.ad 26 0)), (1, .int (nI 16)), (1, .int (nI (k + 1))), xo] ⟨Or.inr rfl, Or.inr rfl, Or.inr rfl, Or.inr rfl, Or.inr rfl, Or.inl rfl, trivial⟩ ?_
          exact ih _ (by rw [← hm]; omega) (k + 1) rfl (by omega) (lt_succ_of (P := fun p => ¬ kTh1 I R o p) hv (by unfold kTh1; rintro (⟨h1, h2⟩ | ⟨h1, h2⟩) <;> first | exact c28 h1 | exact c37 h2 | exact c45 h1 | exact c54 h2))
        · skip
          have c45 : pGrp I k := b2i_n0.mp c45
          refine x_aload 50 dX1_isThere_48 rfl rfl ?_
          refine x_aload_n 51 dX1_isThere_50 rfl rfl ?_
          refine x_callV (as := [.ref (T.ad 7 o)]) (rest := []) (i := k) (n' := n - 1) 54 dX1_isThere_51 rfl mv_X1_234 rfl rfl (hk.l9 (by omega)) (xnh rfl) (by omega) (xst (Nat.le_of_ble_eq_true rfl)) (c_X10_hadIt hk (by omega) (by omega) (fun _ _ _ h => hr.had h) (by omega) ?_)
          change X _ _ _ _ _ _ _ _ _ _
          refine x_if_eq 59 57 dX1_isThere_54 (by decide) rfl (fun c54 => ?_) (fun c54 => ?_)
          · skip
            have c54 : ¬ (pHas R 47 k o) := b2i_0.mp c54
            refine x_iinc 62 [(1, .ref (T.ad 0 0)), (1, .ref (T.ad 7 o)), (1, .ref (T.ad 26 0)), (1, .int (nI 16)), (1, .int (nI (k + 1))), (1, .ref (T.ad 9 k))] dX1_isThere_59 rfl (by decide) rfl (xi_1 k) rfl ?_
            refine x_goto 11 dX1_isThere_62 (by decide) ?_
            refine x_fgt [(1, .ref (T.ad 0 0)), (1, .ref (T.ad 7 o)), (1, .ref (T.ad 26 0)), (1, .int (nI 16)), (1, .int (nI (k + 1))), xo] ⟨Or.inr rfl, Or.inr rfl, Or.inr rfl, Or.inr rfl, Or.inr rfl, Or.inl rfl, trivial⟩ ?_
            exact ih _ (by rw [← hm]; omega) (k + 1) rfl (by omega) (lt_succ_of (P := fun p => ¬ kTh1 I R o p) hv (by unfold kTh1; rintro (⟨h1, h2⟩ | ⟨h1, h2⟩) <;> first | exact c28 h1 | exact c37 h2 | exact c45 h1 | exact c54 h2))
          · skip
            have c54 : pHas R 47 k o := b2i_n0.mp c54
            refine x_iconst (v := 1) 58 dX1_isThere_57 rfl rfl ?_
            refine x_zreturn dX1_isThere_58 rfl (Or.inr rfl) ?_
            exact xr1 (P := kThere I R o) (⟨k, by omega, by first | exact Or.inl ⟨c28, c37⟩ | exact Or.inr ⟨c45, c54⟩⟩) hq
      · skip
        have c28 : pActs I k := b2i_n0.mp c28
        refine x_aload 33 dX1_isThere_31 rfl rfl ?_
        refine x_aload_n 34 dX1_isThere_33 rfl rfl ?_
        refine x_callV (as := [.ref (T.ad 7 o)]) (rest := []) (i := k) (n' := n - 1) 37 dX1_isThere_34 rfl mv_X1_227 rfl rfl (hk.l9 (by omega)) (xnh rfl) (by omega) (xst (Nat.le_of_ble_eq_true rfl)) (c_X10_has hk (by omega) (by omega) (fun _ _ _ h => hr.row h) (by omega) ?_)
        change X _ _ _ _ _ _ _ _ _ _
        refine x_if_ne 57 40 dX1_isThere_37 (by decide) rfl (fun c37 => ?_) (fun c37 => ?_)
        · skip
          have c37 : pHas R 46 k o := b2i_n0.mp c37
          refine x_iconst (v := 1) 58 dX1_isThere_57 rfl rfl ?_
          refine x_zreturn dX1_isThere_58 rfl (Or.inr rfl) ?_
          exact xr1 (P := kThere I R o) (⟨k, by omega, by first | exact Or.inl ⟨c28, c37⟩ | exact Or.inr ⟨c45, c54⟩⟩) hq
        · skip
          have c37 : ¬ (pHas R 46 k o) := b2i_0.mp c37
          refine x_aload 42 dX1_isThere_40 rfl rfl ?_
          refine x_callV (as := []) (rest := []) (i := k) (n' := n - 1) 45 dX1_isThere_42 rfl mv_X1_231 rfl rfl (hk.l9 (by omega)) (xnh rfl) (by omega) (xst (Nat.le_of_ble_eq_true rfl)) (c_X10_hasGroup hk (by omega) (by omega) ?_)
          change X _ _ _ _ _ _ _ _ _ _
          refine x_if_eq 59 48 dX1_isThere_45 (by decide) rfl (fun c45 => ?_) (fun c45 => ?_)
          · skip
            have c45 : ¬ (pGrp I k) := b2i_0.mp c45
            refine x_iinc 62 [(1, .ref (T.ad 0 0)), (1, .ref (T.ad 7 o)), (1, .ref (T.ad 26 0)), (1, .int (nI 16)), (1, .int (nI (k + 1))), (1, .ref (T.ad 9 k))] dX1_isThere_59 rfl (by decide) rfl (xi_1 k) rfl ?_
            refine x_goto 11 dX1_isThere_62 (by decide) ?_
            refine x_fgt [(1, .ref (T.ad 0 0)), (1, .ref (T.ad 7 o)), (1, .ref (T.ad 26 0)), (1, .int (nI 16)), (1, .int (nI (k + 1))), xo] ⟨Or.inr rfl, Or.inr rfl, Or.inr rfl, Or.inr rfl, Or.inr rfl, Or.inl rfl, trivial⟩ ?_
            exact ih _ (by rw [← hm]; omega) (k + 1) rfl (by omega) (lt_succ_of (P := fun p => ¬ kTh1 I R o p) hv (by unfold kTh1; rintro (⟨h1, h2⟩ | ⟨h1, h2⟩) <;> first | exact c28 h1 | exact c37 h2 | exact c45 h1 | exact c54 h2))
          · skip
            have c45 : pGrp I k := b2i_n0.mp c45
            refine x_aload 50 dX1_isThere_48 rfl rfl ?_
            refine x_aload_n 51 dX1_isThere_50 rfl rfl ?_
            refine x_callV (as := [.ref (T.ad 7 o)]) (rest := []) (i := k) (n' := n - 1) 54 dX1_isThere_51 rfl mv_X1_234 rfl rfl (hk.l9 (by omega)) (xnh rfl) (by omega) (xst (Nat.le_of_ble_eq_true rfl)) (c_X10_hadIt hk (by omega) (by omega) (fun _ _ _ h => hr.had h) (by omega) ?_)
            change X _ _ _ _ _ _ _ _ _ _
            refine x_if_eq 59 57 dX1_isThere_54 (by decide) rfl (fun c54 => ?_) (fun c54 => ?_)
            · skip
              have c54 : ¬ (pHas R 47 k o) := b2i_0.mp c54
              refine x_iinc 62 [(1, .ref (T.ad 0 0)), (1, .ref (T.ad 7 o)), (1, .ref (T.ad 26 0)), (1, .int (nI 16)), (1, .int (nI (k + 1))), (1, .ref (T.ad 9 k))] dX1_isThere_59 rfl (by decide) rfl (xi_1 k) rfl ?_
              refine x_goto 11 dX1_isThere_62 (by decide) ?_
              refine x_fgt [(1, .ref (T.ad 0 0)), (1, .ref (T.ad 7 o)), (1, .ref (T.ad 26 0)), (1, .int (nI 16)), (1, .int (nI (k + 1))), xo] ⟨Or.inr rfl, Or.inr rfl, Or.inr rfl, Or.inr rfl, Or.inr rfl, Or.inl rfl, trivial⟩ ?_
              exact ih _ (by rw [← hm]; omega) (k + 1) rfl (by omega) (lt_succ_of (P := fun p => ¬ kTh1 I R o p) hv (by unfold kTh1; rintro (⟨h1, h2⟩ | ⟨h1, h2⟩) <;> first | exact c28 h1 | exact c37 h2 | exact c45 h1 | exact c54 h2))
            · skip
              have c54 : pHas R 47 k o := b2i_n0.mp c54
              refine x_iconst (v := 1) 58 dX1_isThere_57 rfl rfl ?_
              refine x_zreturn dX1_isThere_58 rfl (Or.inr rfl) ?_
              exact xr1 (P := kThere I R o) (⟨k, by omega, by first | exact Or.inl ⟨c28, c37⟩ | exact Or.inr ⟨c45, c54⟩⟩) hq
set_option maxHeartbeats 4000000 in
set_option maxRecDepth 100000 in
theorem c_X1_isThere {G : xG} {n : Nat} {Q : Outcome → xS → Prop} {I : xI} {J : xJ} {R Z : xR} {T : xT} {N B : Nat} (hk : KS Z T N B) (hr : kRef R N) {o : Nat} (ho : o < 384) (hn : 2 ≤ n) (hq : Q (.returned (some (.int (b2i (kThere I R o))))) (I, J, R, Z, T)) : xCall G mX1_isThere n [.ref (T.ad 0 0), .ref (T.ad 7 o)] (I, J, R, Z, T) Q := by
  refine x_met (L0 := [(1, .ref (T.ad 0 0)), (1, .ref (T.ad 7 o)), xo, xo, xo, xo]) (by decide +kernel) rfl ⟨Nat.le_of_ble_eq_true rfl, rfl⟩ ?_
  refine x_aload_n 1 dX1_isThere_0 rfl rfl ?_
  refine x_getz 4 dX1_isThere_1 rfl fl_X1_39 (hk.l0 (by omega)) (hk.z0_8 (by omega)) ?_
  refine x_astore_n 5 [(1, .ref (T.ad 0 0)), (1, .ref (T.ad 7 o)), (1, .ref (T.ad 26 0)), xo, xo, xo] dX1_isThere_4 rfl (by decide) rfl ?_
  refine x_aload_n 6 dX1_isThere_5 rfl rfl ?_
  refine x_alen 7 dX1_isThere_6 rfl ar_26 (hk.l26 (by omega)) ?_
  refine x_vi (congrArg nI (hk.n26 (by omega))) ?_
  refine x_istore_n 8 [(1, .ref (T.ad 0 0)), (1, .ref (T.ad 7 o)), (1, .ref (T.ad 26 0)), (1, .int (nI 16)), xo, xo] dX1_isThere_7 rfl (by decide) rfl ?_
  refine x_iconst (v := 0) 9 dX1_isThere_8 rfl rfl ?_
  refine x_istore 11 [(1, .ref (T.ad 0 0)), (1, .ref (T.ad 7 o)), (1, .ref (T.ad 26 0)), (1, .int (nI 16)), (1, .int 0), xo] dX1_isThere_9 rfl (by decide) rfl ?_
  exact l_X1_isThere hk hr ho hq 0 hn (by omega) (fun p hp => absurd hp (by omega))
theorem dX1_hasPipe_0 : decode cX1_hasPipe 0 = .ok (.aload_n 0, 1) := by decide +kernel
theorem dX1_hasPipe_1 : decode cX1_hasPipe 1 = .ok (.getfield 27, 3) := by decide +kernel
theorem dX1_hasPipe_4 : decode cX1_hasPipe 4 = .ok (.astore_n 2, 1) := by decide +kernel
theorem dX1_hasPipe_5 : decode cX1_hasPipe 5 = .ok (.aload_n 2, 1) := by decide +kernel
theorem dX1_hasPipe_6 : decode cX1_hasPipe 6 = .ok (.arraylength, 1) := by decide +kernel
theorem dX1_hasPipe_7 : decode cX1_hasPipe 7 = .ok (.istore_n 3, 1) := by decide +kernel
theorem dX1_hasPipe_8 : decode cX1_hasPipe 8 = .ok (.iconst 0, 1) := by decide +kernel
theorem dX1_hasPipe_9 : decode cX1_hasPipe 9 = .ok (.istore 4, 2) := by decide +kernel
theorem dX1_hasPipe_11 : decode cX1_hasPipe 11 = .ok (.iload 4, 2) := by decide +kernel
theorem dX1_hasPipe_13 : decode cX1_hasPipe 13 = .ok (.iload_n 3, 1) := by decide +kernel
theorem dX1_hasPipe_14 : decode cX1_hasPipe 14 = .ok (.if_icmp .ge 43, 3) := by decide +kernel
theorem dX1_hasPipe_17 : decode cX1_hasPipe 17 = .ok (.aload_n 2, 1) := by decide +kernel
theorem dX1_hasPipe_18 : decode cX1_hasPipe 18 = .ok (.iload 4, 2) := by decide +kernel
theorem dX1_hasPipe_20 : decode cX1_hasPipe 20 = .ok (.aaload, 1) := by decide +kernel
theorem dX1_hasPipe_21 : decode cX1_hasPipe 21 = .ok (.astore 5, 2) := by decide +kernel
theorem dX1_hasPipe_23 : decode cX1_hasPipe 23 = .ok (.aload 5, 2) := by decide +kernel
theorem dX1_hasPipe_25 : decode cX1_hasPipe 25 = .ok (.invokevirtual 237, 3) := by decide +kernel
theorem dX1_hasPipe_28 : decode cX1_hasPipe 28 = .ok (.ifCond .eq 23, 3) := by decide +kernel
theorem dX1_hasPipe_31 : decode cX1_hasPipe 31 = .ok (.aload 5, 2) := by decide +kernel
theorem dX1_hasPipe_33 : decode cX1_hasPipe 33 = .ok (.getfield 240, 3) := by decide +kernel
theorem dX1_hasPipe_36 : decode cX1_hasPipe 36 = .ok (.iload_n 1, 1) := by decide +kernel
theorem dX1_hasPipe_37 : decode cX1_hasPipe 37 = .ok (.if_icmp .ne 14, 3) := by decide +kernel
theorem dX1_hasPipe_40 : decode cX1_hasPipe 40 = .ok (.aload_n 0, 1) := by decide +kernel
theorem dX1_hasPipe_41 : decode cX1_hasPipe 41 = .ok (.aload 5, 2) := by decide +kernel
theorem dX1_hasPipe_43 : decode cX1_hasPipe 43 = .ok (.invokevirtual 243, 3) := by decide +kernel
theorem dX1_hasPipe_46 : decode cX1_hasPipe 46 = .ok (.ifCond .eq 5, 3) := by decide +kernel
theorem dX1_hasPipe_49 : decode cX1_hasPipe 49 = .ok (.iconst 1, 1) := by decide +kernel
theorem dX1_hasPipe_50 : decode cX1_hasPipe 50 = .ok (.ireturn, 1) := by decide +kernel
theorem dX1_hasPipe_51 : decode cX1_hasPipe 51 = .ok (.iinc 4 1, 3) := by decide +kernel
theorem dX1_hasPipe_54 : decode cX1_hasPipe 54 = .ok (.goto (-43), 3) := by decide +kernel
theorem dX1_hasPipe_57 : decode cX1_hasPipe 57 = .ok (.iconst 0, 1) := by decide +kernel
theorem dX1_hasPipe_58 : decode cX1_hasPipe 58 = .ok (.ireturn, 1) := by decide +kernel
set_option maxHeartbeats 4000000 in
set_option maxRecDepth 100000 in
theorem l_X1_hasPipe {G : xG} {n a b : Nat} {Q : Outcome → xS → Prop} {J : xJ} {Z : xR} {T : xT} {I : xI} {R : xR} {N B : Nat} (hk : KS Z T N B) (hr : kRef R N) {v : Int32} (hq : Q (.returned (some (.int (b2i (kHasPipe I R v))))) (I, J, R, Z, T)) (k : Nat) (hn : 3 ≤ n) :
    (k ≤ 384) → (∀ p, p < k → ¬ kPipe1 I R v p) → X G mX1_hasPipe n a b Q (I, J, R, Z, T) 11 [(1, .ref (T.ad 0 0)), (1, .int v), (1, .ref (T.ad 24 0)), (1, .int (nI 384)), (1, .int (nI k)), xo] [] := by
  induction hm : 384 - k using Nat.strongRecOn generalizing k with
  | _ m_ ih =>
    intro h8 hv
    refine x_iload 13 dX1_hasPipe_11 rfl rfl ?_
    refine x_iload_n 14 dX1_hasPipe_13 rfl rfl ?_
    refine x_icmp_ge 57 17 dX1_hasPipe_14 (by decide) rfl (fun c14 => ?_) (fun c14 => ?_)
    · skip
      have c14 : 384 ≤ k := (nI_leI (a := 384) (b := k) (by omega) (by omega)).mp c14
      refine x_iconst (v := 0) 58 dX1_hasPipe_57 rfl rfl ?_
      refine x_zreturn dX1_hasPipe_58 rfl (Or.inl rfl) ?_
      exact xr0 (P := kHasPipe I R v) (fun ⟨p, hp, h⟩ => hv p (by omega) h) hq
    · skip
      have c14 : ¬ (384 ≤ k) := fun h => c14 ((nI_leI (a := 384) (b := k) (by omega) (by omega)).mpr h)
      refine x_aload_n 18 dX1_hasPipe_17 rfl rfl ?_
      refine x_iload 20 dX1_hasPipe_18 rfl rfl ?_
      refine x_aldz 21 dX1_hasPipe_20 rfl ar_24 rfl (hk.l24 (by omega)) (xb (hk.n24 (by omega)) (by omega) (by omega)) (hk.z24 (by omega)) ?_
      refine x_astore 23 [(1, .ref (T.ad 0 0)), (1, .int v), (1, .ref (T.ad 24 0)), (1, .int (nI 384)), (1, .int (nI k)), (1, .ref (T.ad 7 k))] dX1_hasPipe_21 rfl (by decide) rfl ?_
      refine x_aload 25 dX1_hasPipe_23 rfl rfl ?_
      refine x_callV (as := []) (rest := []) (i := k) (n' := n - 1) 28 dX1_hasPipe_25 rfl mv_X1_237 rfl rfl (hk.l7 (by omega)) (xnh rfl) (by omega) (xst (Nat.le_of_ble_eq_true rfl)) (c_X8_isPipe hk (by omega) (by omega) ?_)
      change X _ _ _ _ _ _ _ _ _ _
      refine x_if_eq 51 31 dX1_hasPipe_28 (by decide) rfl (fun c28 => ?_) (fun c28 => ?_)
      · skip
        have c28 : ¬ (oPipe R k) := b2i_0.mp c28
        refine x_iinc 54 [(1, .ref (T.ad 0 0)), (1, .int v), (1, .ref (T.ad 24 0)), (1, .int (nI 384)), (1, .int (nI (k + 1))), (1, .ref (T.ad 7 k))] dX1_hasPipe_51 rfl (by decide) rfl (xi_1 k) rfl ?_
        refine x_goto 11 dX1_hasPipe_54 (by decide) ?_
        refine x_fgt [(1, .ref (T.ad 0 0)), (1, .int v), (1, .ref (T.ad 24 0)), (1, .int (nI 384)), (1, .int (nI (k + 1))), xo] ⟨Or.inr rfl, Or.inr rfl, Or.inr rfl, Or.inr rfl, Or.inr rfl, Or.inl rfl, trivial⟩ ?_
        exact ih _ (by rw [← hm]; omega) (k + 1) rfl (by omega) (lt_succ_of (P := fun p => ¬ kPipe1 I R v p) hv (by rintro ⟨h1, h2, h3⟩; first | exact c28 h1 | exact c37 h2 | exact c46 h3))
      · skip
        have c28 : oPipe R k := b2i_n0.mp c28
        refine x_aload 33 dX1_hasPipe_31 rfl rfl ?_
        refine x_geti 36 dX1_hasPipe_33 rfl fl_X1_240 (hk.l7 (by omega)) ?_
        refine x_iload_n 37 dX1_hasPipe_36 rfl rfl ?_
        refine x_icmp_ne 51 40 dX1_hasPipe_37 (by decide) rfl (fun c37 => ?_) (fun c37 => ?_)
        · skip
          refine x_iinc 54 [(1, .ref (T.ad 0 0)), (1, .int v), (1, .ref (T.ad 24 0)), (1, .int (nI 384)), (1, .int (nI (k + 1))), (1, .ref (T.ad 7 k))] dX1_hasPipe_51 rfl (by decide) rfl (xi_1 k) rfl ?_
          refine x_goto 11 dX1_hasPipe_54 (by decide) ?_
          refine x_fgt [(1, .ref (T.ad 0 0)), (1, .int v), (1, .ref (T.ad 24 0)), (1, .int (nI 384)), (1, .int (nI (k + 1))), xo] ⟨Or.inr rfl, Or.inr rfl, Or.inr rfl, Or.inr rfl, Or.inr rfl, Or.inl rfl, trivial⟩ ?_
          exact ih _ (by rw [← hm]; omega) (k + 1) rfl (by omega) (lt_succ_of (P := fun p => ¬ kPipe1 I R v p) hv (by rintro ⟨h1, h2, h3⟩; first | exact c28 h1 | exact c37 h2 | exact c46 h3))
        · skip
          refine x_aload_n 41 dX1_hasPipe_40 rfl rfl ?_
          refine x_aload 43 dX1_hasPipe_41 rfl rfl ?_
          refine x_callV (as := [.ref (T.ad 7 k)]) (rest := []) (i := 0) (n' := n - 1) 46 dX1_hasPipe_43 rfl mv_X1_243 rfl rfl (hk.l0 (by omega)) (xnh rfl) (by omega) (xst (Nat.le_of_ble_eq_true rfl)) (c_X1_isThere hk hr (by omega) (by omega) ?_)
          change X _ _ _ _ _ _ _ _ _ _
          refine x_if_eq 51 49 dX1_hasPipe_46 (by decide) rfl (fun c46 => ?_) (fun c46 => ?_)
          · skip
            have c46 : ¬ (kThere I R k) := b2i_0.mp c46
            refine x_iinc 54 [(1, .ref (T.ad 0 0)), (1, .int v), (1, .ref (T.ad 24 0)), (1, .int (nI 384)), (1, .int (nI (k + 1))), (1, .ref (T.ad 7 k))] dX1_hasPipe_51 rfl (by decide) rfl (xi_1 k) rfl ?_
            refine x_goto 11 dX1_hasPipe_54 (by decide) ?_
            refine x_fgt [(1, .ref (T.ad 0 0)), (1, .int v), (1, .ref (T.ad 24 0)), (1, .int (nI 384)), (1, .int (nI (k + 1))), xo] ⟨Or.inr rfl, Or.inr rfl, Or.inr rfl, Or.inr rfl, Or.inr rfl, Or.inl rfl, trivial⟩ ?_
            exact ih _ (by rw [← hm]; omega) (k + 1) rfl (by omega) (lt_succ_of (P := fun p => ¬ kPipe1 I R v p) hv (by rintro ⟨h1, h2, h3⟩; first | exact c28 h1 | exact c37 h2 | exact c46 h3))
          · skip
            have c46 : kThere I R k := b2i_n0.mp c46
            refine x_iconst (v := 1) 50 dX1_hasPipe_49 rfl rfl ?_
            refine x_zreturn dX1_hasPipe_50 rfl (Or.inr rfl) ?_
            exact xr1 (P := kHasPipe I R v) (⟨k, by omega, c28, c37, c46⟩) hq
set_option maxHeartbeats 4000000 in
set_option maxRecDepth 100000 in
theorem c_X1_hasPipe {G : xG} {n : Nat} {Q : Outcome → xS → Prop} {I : xI} {J : xJ} {R Z : xR} {T : xT} {N B : Nat} (hk : KS Z T N B) (hr : kRef R N) {v : Int32} (hn : 3 ≤ n) (hq : Q (.returned (some (.int (b2i (kHasPipe I R v))))) (I, J, R, Z, T)) : xCall G mX1_hasPipe n [.ref (T.ad 0 0), .int v] (I, J, R, Z, T) Q := by
  refine x_met (L0 := [(1, .ref (T.ad 0 0)), (1, .int v), xo, xo, xo, xo]) (by decide +kernel) rfl ⟨Nat.le_of_ble_eq_true rfl, rfl⟩ ?_
  refine x_aload_n 1 dX1_hasPipe_0 rfl rfl ?_
  refine x_getz 4 dX1_hasPipe_1 rfl fl_X1_27 (hk.l0 (by omega)) (hk.z0_6 (by omega)) ?_
  refine x_astore_n 5 [(1, .ref (T.ad 0 0)), (1, .int v), (1, .ref (T.ad 24 0)), xo, xo, xo] dX1_hasPipe_4 rfl (by decide) rfl ?_
  refine x_aload_n 6 dX1_hasPipe_5 rfl rfl ?_
  refine x_alen 7 dX1_hasPipe_6 rfl ar_24 (hk.l24 (by omega)) ?_
  refine x_vi (congrArg nI (hk.n24 (by omega))) ?_
  refine x_istore_n 8 [(1, .ref (T.ad 0 0)), (1, .int v), (1, .ref (T.ad 24 0)), (1, .int (nI 384)), xo, xo] dX1_hasPipe_7 rfl (by decide) rfl ?_
  refine x_iconst (v := 0) 9 dX1_hasPipe_8 rfl rfl ?_
  refine x_istore 11 [(1, .ref (T.ad 0 0)), (1, .int v), (1, .ref (T.ad 24 0)), (1, .int (nI 384)), (1, .int 0), xo] dX1_hasPipe_9 rfl (by decide) rfl ?_
  exact l_X1_hasPipe hk hr hq 0 hn (by omega) (fun p hp => absurd hp (by omega))
theorem dX1_hasSide_0 : decode cX1_hasSide 0 = .ok (.aload_n 0, 1) := by decide +kernel
theorem dX1_hasSide_1 : decode cX1_hasSide 1 = .ok (.getfield 39, 3) := by decide +kernel
theorem dX1_hasSide_4 : decode cX1_hasSide 4 = .ok (.astore_n 3, 1) := by decide +kernel
theorem dX1_hasSide_5 : decode cX1_hasSide 5 = .ok (.aload_n 3, 1) := by decide +kernel
theorem dX1_hasSide_6 : decode cX1_hasSide 6 = .ok (.arraylength, 1) := by decide +kernel
theorem dX1_hasSide_7 : decode cX1_hasSide 7 = .ok (.istore 4, 2) := by decide +kernel
theorem dX1_hasSide_9 : decode cX1_hasSide 9 = .ok (.iconst 0, 1) := by decide +kernel
theorem dX1_hasSide_10 : decode cX1_hasSide 10 = .ok (.istore 5, 2) := by decide +kernel
theorem dX1_hasSide_12 : decode cX1_hasSide 12 = .ok (.iload 5, 2) := by decide +kernel
theorem dX1_hasSide_14 : decode cX1_hasSide 14 = .ok (.iload 4, 2) := by decide +kernel
theorem dX1_hasSide_16 : decode cX1_hasSide 16 = .ok (.if_icmp .ge 94, 3) := by decide +kernel
theorem dX1_hasSide_19 : decode cX1_hasSide 19 = .ok (.aload_n 3, 1) := by decide +kernel
theorem dX1_hasSide_20 : decode cX1_hasSide 20 = .ok (.iload 5, 2) := by decide +kernel
theorem dX1_hasSide_22 : decode cX1_hasSide 22 = .ok (.aaload, 1) := by decide +kernel
theorem dX1_hasSide_23 : decode cX1_hasSide 23 = .ok (.astore 6, 2) := by decide +kernel
theorem dX1_hasSide_25 : decode cX1_hasSide 25 = .ok (.aload 6, 2) := by decide +kernel
theorem dX1_hasSide_27 : decode cX1_hasSide 27 = .ok (.invokevirtual 223, 3) := by decide +kernel
theorem dX1_hasSide_30 : decode cX1_hasSide 30 = .ok (.ifCond .ne 6, 3) := by decide +kernel
theorem dX1_hasSide_33 : decode cX1_hasSide 33 = .ok (.goto 71, 3) := by decide +kernel
theorem dX1_hasSide_36 : decode cX1_hasSide 36 = .ok (.aload 6, 2) := by decide +kernel
theorem dX1_hasSide_38 : decode cX1_hasSide 38 = .ok (.getfield 246, 3) := by decide +kernel
theorem dX1_hasSide_41 : decode cX1_hasSide 41 = .ok (.astore 7, 2) := by decide +kernel
theorem dX1_hasSide_43 : decode cX1_hasSide 43 = .ok (.aload 7, 2) := by decide +kernel
theorem dX1_hasSide_45 : decode cX1_hasSide 45 = .ok (.arraylength, 1) := by decide +kernel
theorem dX1_hasSide_46 : decode cX1_hasSide 46 = .ok (.istore 8, 2) := by decide +kernel
theorem dX1_hasSide_48 : decode cX1_hasSide 48 = .ok (.iconst 0, 1) := by decide +kernel
theorem dX1_hasSide_49 : decode cX1_hasSide 49 = .ok (.istore 9, 2) := by decide +kernel
theorem dX1_hasSide_51 : decode cX1_hasSide 51 = .ok (.iload 9, 2) := by decide +kernel
theorem dX1_hasSide_53 : decode cX1_hasSide 53 = .ok (.iload 8, 2) := by decide +kernel
theorem dX1_hasSide_55 : decode cX1_hasSide 55 = .ok (.if_icmp .ge 49, 3) := by decide +kernel
theorem dX1_hasSide_58 : decode cX1_hasSide 58 = .ok (.aload 7, 2) := by decide +kernel
theorem dX1_hasSide_60 : decode cX1_hasSide 60 = .ok (.iload 9, 2) := by decide +kernel
theorem dX1_hasSide_62 : decode cX1_hasSide 62 = .ok (.aaload, 1) := by decide +kernel
theorem dX1_hasSide_63 : decode cX1_hasSide 63 = .ok (.astore 10, 2) := by decide +kernel
theorem dX1_hasSide_65 : decode cX1_hasSide 65 = .ok (.aload 10, 2) := by decide +kernel
theorem dX1_hasSide_67 : decode cX1_hasSide 67 = .ok (.ifnull 31, 3) := by decide +kernel
theorem dX1_hasSide_70 : decode cX1_hasSide 70 = .ok (.aload 10, 2) := by decide +kernel
theorem dX1_hasSide_72 : decode cX1_hasSide 72 = .ok (.invokevirtual 237, 3) := by decide +kernel
theorem dX1_hasSide_75 : decode cX1_hasSide 75 = .ok (.ifCond .eq 23, 3) := by decide +kernel
theorem dX1_hasSide_78 : decode cX1_hasSide 78 = .ok (.aload 10, 2) := by decide +kernel
theorem dX1_hasSide_80 : decode cX1_hasSide 80 = .ok (.getfield 240, 3) := by decide +kernel
theorem dX1_hasSide_83 : decode cX1_hasSide 83 = .ok (.iload_n 1, 1) := by decide +kernel
theorem dX1_hasSide_84 : decode cX1_hasSide 84 = .ok (.if_icmp .ne 14, 3) := by decide +kernel
theorem dX1_hasSide_87 : decode cX1_hasSide 87 = .ok (.aload 10, 2) := by decide +kernel
theorem dX1_hasSide_89 : decode cX1_hasSide 89 = .ok (.getfield 249, 3) := by decide +kernel
theorem dX1_hasSide_92 : decode cX1_hasSide 92 = .ok (.iload_n 2, 1) := by decide +kernel
theorem dX1_hasSide_93 : decode cX1_hasSide 93 = .ok (.if_icmp .ne 5, 3) := by decide +kernel
theorem dX1_hasSide_96 : decode cX1_hasSide 96 = .ok (.iconst 1, 1) := by decide +kernel
theorem dX1_hasSide_97 : decode cX1_hasSide 97 = .ok (.ireturn, 1) := by decide +kernel
theorem dX1_hasSide_98 : decode cX1_hasSide 98 = .ok (.iinc 9 1, 3) := by decide +kernel
theorem dX1_hasSide_101 : decode cX1_hasSide 101 = .ok (.goto (-50), 3) := by decide +kernel
theorem dX1_hasSide_104 : decode cX1_hasSide 104 = .ok (.iinc 5 1, 3) := by decide +kernel
theorem dX1_hasSide_107 : decode cX1_hasSide 107 = .ok (.goto (-95), 3) := by decide +kernel
theorem dX1_hasSide_110 : decode cX1_hasSide 110 = .ok (.iconst 0, 1) := by decide +kernel
theorem dX1_hasSide_111 : decode cX1_hasSide 111 = .ok (.ireturn, 1) := by decide +kernel
set_option maxHeartbeats 4000000 in
set_option maxRecDepth 100000 in
theorem i_X1_hasSide {G : xG} {n a b : Nat} {Q : Outcome → xS → Prop} {J : xJ} {Z : xR} {T : xT} {I : xI} {R : xR} {N B : Nat} (hk : KS Z T N B) (hr : kRef R N) {v s : Int32} {k : Nat} (hk16 : k < 16) (hac : pActs I k) (hq : Q (.returned (some (.int (b2i (kHasSide I R v s))))) (I, J, R, Z, T)) (hx : (∀ q, q < 8 → ¬ kSide1 I R v s k q) → X G mX1_hasSide n a b Q (I, J, R, Z, T) 104 [(1, .ref (T.ad 0 0)), (1, .int v), (1, .int s), (1, .ref (T.ad 26 0)), (1, .int (nI 16)), (1, .int (nI k)), xo, xo, xo, xo, xo] []) (q : Nat) (hn : 2 ≤ n) :
    (q ≤ 8) → (∀ p, p < q → ¬ kSide1 I R v s k p) → X G mX1_hasSide n a b Q (I, J, R, Z, T) 51 [(1, .ref (T.ad 0 0)), (1, .int v), (1, .int s), (1, .ref (T.ad 26 0)), (1, .int (nI 16)), (1, .int (nI k)), (1, .ref (T.ad 9 k)), (1, .ref (T.ad 46 k)), (1, .int (nI 8)), (1, .int (nI q)), xo] [] := by
  induction hm : 8 - q using Nat.strongRecOn generalizing q with
  | _ m_ ih =>
    intro h8 hv
    refine x_iload 53 dX1_hasSide_51 rfl rfl ?_
    refine x_iload 55 dX1_hasSide_53 rfl rfl ?_
    refine x_icmp_ge 104 58 dX1_hasSide_55 (by decide) rfl (fun c55 => ?_) (fun c55 => ?_)
    · skip
      have c55 : 8 ≤ q := (nI_leI (a := 8) (b := q) (by omega) (by omega)).mp c55
      refine x_fgt [(1, .ref (T.ad 0 0)), (1, .int v), (1, .int s), (1, .ref (T.ad 26 0)), (1, .int (nI 16)), (1, .int (nI k)), xo, xo, xo, xo, xo] ⟨Or.inr rfl, Or.inr rfl, Or.inr rfl, Or.inr rfl, Or.inr rfl, Or.inr rfl, Or.inl rfl, Or.inl rfl, Or.inl rfl, Or.inl rfl, Or.inl rfl, trivial⟩ ?_
      exact hx (fun p hp => hv p (by omega))
    · skip
      have c55 : ¬ (8 ≤ q) := fun h => c55 ((nI_leI (a := 8) (b := q) (by omega) (by omega)).mpr h)
      refine x_aload 60 dX1_hasSide_58 rfl rfl ?_
      refine x_iload 62 dX1_hasSide_60 rfl rfl ?_
      refine x_aldr 63 dX1_hasSide_62 rfl ar_46 rfl (hk.l46 (by omega)) (xb (hk.n46 (by omega)) (by omega) (by omega)) ?_
      refine x_nmr fun r1 hr1 => ?_
      refine x_astore_r 65 [(1, .ref (T.ad 0 0)), (1, .int v), (1, .int s), (1, .ref (T.ad 26 0)), (1, .int (nI 16)), (1, .int (nI k)), (1, .ref (T.ad 9 k)), (1, .ref (T.ad 46 k)), (1, .int (nI 8)), (1, .int (nI q)), (1, va_re (T.ad 7) r1)] dX1_hasSide_63 rfl (by decide) rfl ?_
      refine x_aload_r 67 dX1_hasSide_65 rfl rfl ?_
      refine x_ifnull 98 70 dX1_hasSide_67 (by decide) rfl (fun c67 => ?_) (fun j1 c67 => ?_)
      · skip
        have d67 := hr1.symm.trans c67
        refine x_iinc 101 [(1, .ref (T.ad 0 0)), (1, .int v), (1, .int s), (1, .ref (T.ad 26 0)), (1, .int (nI 16)), (1, .int (nI k)), (1, .ref (T.ad 9 k)), (1, .ref (T.ad 46 k)), (1, .int (nI 8)), (1, .int (nI (q + 1))), (1, va_re (T.ad 7) r1)] dX1_hasSide_98 rfl (by decide) rfl (xi_1 q) rfl ?_
        refine x_goto 51 dX1_hasSide_101 (by decide) ?_
        refine x_fgt [(1, .ref (T.ad 0 0)), (1, .int v), (1, .int s), (1, .ref (T.ad 26 0)), (1, .int (nI 16)), (1, .int (nI k)), (1, .ref (T.ad 9 k)), (1, .ref (T.ad 46 k)), (1, .int (nI 8)), (1, .int (nI (q + 1))), xo] ⟨Or.inr rfl, Or.inr rfl, Or.inr rfl, Or.inr rfl, Or.inr rfl, Or.inr rfl, Or.inr rfl, Or.inr rfl, Or.inr rfl, Or.inr rfl, Or.inl rfl, trivial⟩ ?_
        exact ih _ (by rw [← hm]; omega) (q + 1) rfl (by omega) (lt_succ_of (P := fun p => ¬ kSide1 I R v s k p) hv (fun ⟨o, h1, _⟩ => nomatch d67.symm.trans h1))
      · skip
        have d67 := hr1.symm.trans c67
        refine x_aload_r 72 dX1_hasSide_70 rfl rfl ?_
        refine x_some c67 ?_
        refine x_callV (as := []) (rest := []) (i := j1) (n' := n - 1) 75 dX1_hasSide_72 rfl mv_X1_237 rfl rfl (hk.l7 (hr.row (by assumption))) (xnh rfl) (by omega) (xst (Nat.le_of_ble_eq_true rfl)) (c_X8_isPipe hk (hr.row d67) (by omega) ?_)
        change X _ _ _ _ _ _ _ _ _ _
        refine x_if_eq 98 78 dX1_hasSide_75 (by decide) rfl (fun c75 => ?_) (fun c75 => ?_)
        · skip
          have c75 : ¬ (oPipe R j1) := b2i_0.mp c75
          have d67 := hr1.symm.trans c67
          refine x_iinc 101 [(1, .ref (T.ad 0 0)), (1, .int v), (1, .int s), (1, .ref (T.ad 26 0)), (1, .int (nI 16)), (1, .int (nI k)), (1, .ref (T.ad 9 k)), (1, .ref (T.ad 46 k)), (1, .int (nI 8)), (1, .int (nI (q + 1))), (1, va_re (T.ad 7) r1)] dX1_hasSide_98 rfl (by decide) rfl (xi_1 q) rfl ?_
          refine x_goto 51 dX1_hasSide_101 (by decide) ?_
          refine x_fgt [(1, .ref (T.ad 0 0)), (1, .int v), (1, .int s), (1, .ref (T.ad 26 0)), (1, .int (nI 16)), (1, .int (nI k)), (1, .ref (T.ad 9 k)), (1, .ref (T.ad 46 k)), (1, .int (nI 8)), (1, .int (nI (q + 1))), xo] ⟨Or.inr rfl, Or.inr rfl, Or.inr rfl, Or.inr rfl, Or.inr rfl, Or.inr rfl, Or.inr rfl, Or.inr rfl, Or.inr rfl, Or.inr rfl, Or.inl rfl, trivial⟩ ?_
          exact ih _ (by rw [← hm]; omega) (q + 1) rfl (by omega) (lt_succ_of (P := fun p => ¬ kSide1 I R v s k p) hv (fun ⟨o, h1, h2, h3, h4⟩ => c75 (by rw [Option.some.inj (d67.symm.trans h1)]; exact h2)))
        · skip
          have c75 : oPipe R j1 := b2i_n0.mp c75
          refine x_aload_r 80 dX1_hasSide_78 rfl rfl ?_
          refine x_some c67 ?_
          refine x_geti 83 dX1_hasSide_80 rfl fl_X1_240 (hk.l7 (hr.row (by assumption))) ?_
          refine x_iload_n 84 dX1_hasSide_83 rfl rfl ?_
          refine x_icmp_ne 98 87 dX1_hasSide_84 (by decide) rfl (fun c84 => ?_) (fun c84 => ?_)
          · skip
            have d67 := hr1.symm.trans c67
            refine x_iinc 101 [(1, .ref (T.ad 0 0)), (1, .int v), (1, .int s), (1, .ref (T.ad 26 0)), (1, .int (nI 16)), (1, .int (nI k)), (1, .ref (T.ad 9 k)), (1, .ref (T.ad 46 k)), (1, .int (nI 8)), (1, .int (nI (q + 1))), (1, va_re (T.ad 7) r1)] dX1_hasSide_98 rfl (by decide) rfl (xi_1 q) rfl ?_
            refine x_goto 51 dX1_hasSide_101 (by decide) ?_
            refine x_fgt [(1, .ref (T.ad 0 0)), (1, .int v), (1, .int s), (1, .ref (T.ad 26 0)), (1, .int (nI 16)), (1, .int (nI k)), (1, .ref (T.ad 9 k)), (1, .ref (T.ad 46 k)), (1, .int (nI 8)), (1, .int (nI (q + 1))), xo] ⟨Or.inr rfl, Or.inr rfl, Or.inr rfl, Or.inr rfl, Or.inr rfl, Or.inr rfl, Or.inr rfl, Or.inr rfl, Or.inr rfl, Or.inr rfl, Or.inl rfl, trivial⟩ ?_
            exact ih _ (by rw [← hm]; omega) (q + 1) rfl (by omega) (lt_succ_of (P := fun p => ¬ kSide1 I R v s k p) hv (fun ⟨o, h1, h2, h3, h4⟩ => c84 (by rw [Option.some.inj (d67.symm.trans h1)]; exact h3)))
          · skip
            refine x_aload_r 89 dX1_hasSide_87 rfl rfl ?_
            refine x_some c67 ?_
            refine x_geti 92 dX1_hasSide_89 rfl fl_X1_249 (hk.l7 (hr.row (by assumption))) ?_
            refine x_iload_n 93 dX1_hasSide_92 rfl rfl ?_
            refine x_icmp_ne 98 96 dX1_hasSide_93 (by decide) rfl (fun c93 => ?_) (fun c93 => ?_)
            · skip
              have d67 := hr1.symm.trans c67
              refine x_iinc 101 [(1, .ref (T.ad 0 0)), (1, .int v), (1, .int s), (1, .ref (T.ad 26 0)), (1, .int (nI 16)), (1, .int (nI k)), (1, .ref (T.ad 9 k)), (1, .ref (T.ad 46 k)), (1, .int (nI 8)), (1, .int (nI (q + 1))), (1, va_re (T.ad 7) r1)] dX1_hasSide_98 rfl (by decide) rfl (xi_1 q) rfl ?_
              refine x_goto 51 dX1_hasSide_101 (by decide) ?_
              refine x_fgt [(1, .ref (T.ad 0 0)), (1, .int v), (1, .int s), (1, .ref (T.ad 26 0)), (1, .int (nI 16)), (1, .int (nI k)), (1, .ref (T.ad 9 k)), (1, .ref (T.ad 46 k)), (1, .int (nI 8)), (1, .int (nI (q + 1))), xo] ⟨Or.inr rfl, Or.inr rfl, Or.inr rfl, Or.inr rfl, Or.inr rfl, Or.inr rfl, Or.inr rfl, Or.inr rfl, Or.inr rfl, Or.inr rfl, Or.inl rfl, trivial⟩ ?_
              exact ih _ (by rw [← hm]; omega) (q + 1) rfl (by omega) (lt_succ_of (P := fun p => ¬ kSide1 I R v s k p) hv (fun ⟨o, h1, h2, h3, h4⟩ => c93 (by rw [Option.some.inj (d67.symm.trans h1)]; exact h4)))
            · skip
              refine x_iconst (v := 1) 97 dX1_hasSide_96 rfl rfl ?_
              refine x_zreturn dX1_hasSide_97 rfl (Or.inr rfl) ?_
              exact xr1 (P := kHasSide I R v s) (⟨k, hk16, hac, q, by omega, _, d67, c75, c84, c93⟩) hq
set_option maxHeartbeats 4000000 in
set_option maxRecDepth 100000 in
theorem l_X1_hasSide {G : xG} {n a b : Nat} {Q : Outcome → xS → Prop} {J : xJ} {Z : xR} {T : xT} {I : xI} {R : xR} {N B : Nat} (hk : KS Z T N B) (hr : kRef R N) {v s : Int32} (hq : Q (.returned (some (.int (b2i (kHasSide I R v s))))) (I, J, R, Z, T)) (k : Nat) (hn : 2 ≤ n) :
    (k ≤ 16) → (∀ p, p < k → ¬ (pActs I p ∧ ∃ q, q < 8 ∧ kSide1 I R v s p q)) → X G mX1_hasSide n a b Q (I, J, R, Z, T) 12 [(1, .ref (T.ad 0 0)), (1, .int v), (1, .int s), (1, .ref (T.ad 26 0)), (1, .int (nI 16)), (1, .int (nI k)), xo, xo, xo, xo, xo] [] := by
  induction hm : 16 - k using Nat.strongRecOn generalizing k with
  | _ m_ ih =>
    intro h8 hv
    refine x_iload 14 dX1_hasSide_12 rfl rfl ?_
    refine x_iload 16 dX1_hasSide_14 rfl rfl ?_
    refine x_icmp_ge 110 19 dX1_hasSide_16 (by decide) rfl (fun c16 => ?_) (fun c16 => ?_)
    · skip
      have c16 : 16 ≤ k := (nI_leI (a := 16) (b := k) (by omega) (by omega)).mp c16
      refine x_iconst (v := 0) 111 dX1_hasSide_110 rfl rfl ?_
      refine x_zreturn dX1_hasSide_111 rfl (Or.inl rfl) ?_
      exact xr0 (P := kHasSide I R v s) (fun ⟨p, hp, h⟩ => hv p (by omega) h) hq
    · skip
      have c16 : ¬ (16 ≤ k) := fun h => c16 ((nI_leI (a := 16) (b := k) (by omega) (by omega)).mpr h)
      refine x_aload_n 20 dX1_hasSide_19 rfl rfl ?_
      refine x_iload 22 dX1_hasSide_20 rfl rfl ?_
      refine x_aldz 23 dX1_hasSide_22 rfl ar_26 rfl (hk.l26 (by omega)) (xb (hk.n26 (by omega)) (by omega) (by omega)) (hk.z26 (by omega)) ?_
      refine x_astore 25 [(1, .ref (T.ad 0 0)), (1, .int v), (1, .int s), (1, .ref (T.ad 26 0)), (1, .int (nI 16)), (1, .int (nI k)), (1, .ref (T.ad 9 k)), xo, xo, xo, xo] dX1_hasSide_23 rfl (by decide) rfl ?_
      refine x_aload 27 dX1_hasSide_25 rfl rfl ?_
      refine x_callV (as := []) (rest := []) (i := k) (n' := n - 1) 30 dX1_hasSide_27 rfl mv_X1_223 rfl rfl (hk.l9 (by omega)) (xnh rfl) (by omega) (xst (Nat.le_of_ble_eq_true rfl)) (c_X10_acts hk (by omega) (by omega) ?_)
      change X _ _ _ _ _ _ _ _ _ _
      refine x_if_ne 36 33 dX1_hasSide_30 (by decide) rfl (fun c30 => ?_) (fun c30 => ?_)
      · skip
        have c30 : pActs I k := b2i_n0.mp c30
        refine x_aload 38 dX1_hasSide_36 rfl rfl ?_
        refine x_getz 41 dX1_hasSide_38 rfl fl_X1_246 (hk.l9 (by omega)) (hk.z9_4 (by omega)) ?_
        refine x_astore 43 [(1, .ref (T.ad 0 0)), (1, .int v), (1, .int s), (1, .ref (T.ad 26 0)), (1, .int (nI 16)), (1, .int (nI k)), (1, .ref (T.ad 9 k)), (1, .ref (T.ad 46 k)), xo, xo, xo] dX1_hasSide_41 rfl (by decide) rfl ?_
        refine x_aload 45 dX1_hasSide_43 rfl rfl ?_
        refine x_alen 46 dX1_hasSide_45 rfl ar_46 (hk.l46 (by omega)) ?_
        refine x_vi (congrArg nI (hk.n46 (by omega))) ?_
        refine x_istore 48 [(1, .ref (T.ad 0 0)), (1, .int v), (1, .int s), (1, .ref (T.ad 26 0)), (1, .int (nI 16)), (1, .int (nI k)), (1, .ref (T.ad 9 k)), (1, .ref (T.ad 46 k)), (1, .int (nI 8)), xo, xo] dX1_hasSide_46 rfl (by decide) rfl ?_
        refine x_iconst (v := 0) 49 dX1_hasSide_48 rfl rfl ?_
        refine x_istore 51 [(1, .ref (T.ad 0 0)), (1, .int v), (1, .int s), (1, .ref (T.ad 26 0)), (1, .int (nI 16)), (1, .int (nI k)), (1, .ref (T.ad 9 k)), (1, .ref (T.ad 46 k)), (1, .int (nI 8)), (1, .int 0), xo] dX1_hasSide_49 rfl (by decide) rfl ?_
        refine i_X1_hasSide hk hr (by omega) c30 hq (fun hno => ?_) 0 hn (by omega) (fun q hq_ => absurd hq_ (by omega))
        refine x_iinc 107 [(1, .ref (T.ad 0 0)), (1, .int v), (1, .int s), (1, .ref (T.ad 26 0)), (1, .int (nI 16)), (1, .int (nI (k + 1))), xo, xo, xo, xo, xo] dX1_hasSide_104 rfl (by decide) rfl (xi_1 k) rfl ?_
        refine x_goto 12 dX1_hasSide_107 (by decide) ?_
        exact ih _ (by rw [← hm]; omega) (k + 1) rfl (by omega) (lt_succ_of (P := fun p => ¬ (pActs I p ∧ ∃ q, q < 8 ∧ kSide1 I R v s p q)) hv (fun ⟨_, q, h2, h3⟩ => hno q h2 h3))
      · skip
        have c30 : ¬ (pActs I k) := b2i_0.mp c30
        refine x_goto 104 dX1_hasSide_33 (by decide) ?_
        refine x_iinc 107 [(1, .ref (T.ad 0 0)), (1, .int v), (1, .int s), (1, .ref (T.ad 26 0)), (1, .int (nI 16)), (1, .int (nI (k + 1))), (1, .ref (T.ad 9 k)), xo, xo, xo, xo] dX1_hasSide_104 rfl (by decide) rfl (xi_1 k) rfl ?_
        refine x_goto 12 dX1_hasSide_107 (by decide) ?_
        refine x_fgt [(1, .ref (T.ad 0 0)), (1, .int v), (1, .int s), (1, .ref (T.ad 26 0)), (1, .int (nI 16)), (1, .int (nI (k + 1))), xo, xo, xo, xo, xo] ⟨Or.inr rfl, Or.inr rfl, Or.inr rfl, Or.inr rfl, Or.inr rfl, Or.inr rfl, Or.inl rfl, Or.inl rfl, Or.inl rfl, Or.inl rfl, Or.inl rfl, trivial⟩ ?_
        exact ih _ (by rw [← hm]; omega) (k + 1) rfl (by omega) (lt_succ_of (P := fun p => ¬ (pActs I p ∧ ∃ q, q < 8 ∧ kSide1 I R v s p q)) hv (fun h => c30 h.1))
set_option maxHeartbeats 4000000 in
set_option maxRecDepth 100000 in
theorem c_X1_hasSide {G : xG} {n : Nat} {Q : Outcome → xS → Prop} {I : xI} {J : xJ} {R Z : xR} {T : xT} {N B : Nat} (hk : KS Z T N B) (hr : kRef R N) {v s : Int32} (hn : 2 ≤ n) (hq : Q (.returned (some (.int (b2i (kHasSide I R v s))))) (I, J, R, Z, T)) : xCall G mX1_hasSide n [.ref (T.ad 0 0), .int v, .int s] (I, J, R, Z, T) Q := by
  refine x_met (L0 := [(1, .ref (T.ad 0 0)), (1, .int v), (1, .int s), xo, xo, xo, xo, xo, xo, xo, xo]) (by decide +kernel) rfl ⟨Nat.le_of_ble_eq_true rfl, rfl⟩ ?_
  refine x_aload_n 1 dX1_hasSide_0 rfl rfl ?_
  refine x_getz 4 dX1_hasSide_1 rfl fl_X1_39 (hk.l0 (by omega)) (hk.z0_8 (by omega)) ?_
  refine x_astore_n 5 [(1, .ref (T.ad 0 0)), (1, .int v), (1, .int s), (1, .ref (T.ad 26 0)), xo, xo, xo, xo, xo, xo, xo] dX1_hasSide_4 rfl (by decide) rfl ?_
  refine x_aload_n 6 dX1_hasSide_5 rfl rfl ?_
  refine x_alen 7 dX1_hasSide_6 rfl ar_26 (hk.l26 (by omega)) ?_
  refine x_vi (congrArg nI (hk.n26 (by omega))) ?_
  refine x_istore 9 [(1, .ref (T.ad 0 0)), (1, .int v), (1, .int s), (1, .ref (T.ad 26 0)), (1, .int (nI 16)), xo, xo, xo, xo, xo, xo] dX1_hasSide_7 rfl (by decide) rfl ?_
  refine x_iconst (v := 0) 10 dX1_hasSide_9 rfl rfl ?_
  refine x_istore 12 [(1, .ref (T.ad 0 0)), (1, .int v), (1, .int s), (1, .ref (T.ad 26 0)), (1, .int (nI 16)), (1, .int 0), xo, xo, xo, xo, xo] dX1_hasSide_10 rfl (by decide) rfl ?_
  exact l_X1_hasSide hk hr hq 0 hn (by omega) (fun p hp => absurd hp (by omega))
