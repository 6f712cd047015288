set_option maxRecDepth 100000
theorem dX1_has_0 : decode cX1_has 0 = .ok (.aload_n 0, 1) := by decide +kernel
theorem dX1_has_1 : decode cX1_has 1 = .ok (.getfield 371, 3) := by decide +kernel
theorem dX1_has_4 : decode cX1_has 4 = .ok (.getfield 246, 3) := by decide +kernel
theorem dX1_has_7 : decode cX1_has 7 = .ok (.iload_n 1, 1) := by decide +kernel
theorem dX1_has_8 : decode cX1_has 8 = .ok (.aaload, 1) := by decide +kernel
theorem dX1_has_9 : decode cX1_has 9 = .ok (.ifnonnull 13, 3) := by decide +kernel
theorem dX1_has_12 : decode cX1_has 12 = .ok (.aload_n 0, 1) := by decide +kernel
theorem dX1_has_13 : decode cX1_has 13 = .ok (.getfield 53, 3) := by decide +kernel
theorem dX1_has_16 : decode cX1_has 16 = .ok (.bipush (-2), 2) := by decide +kernel
theorem dX1_has_18 : decode cX1_has 18 = .ok (.invokevirtual 364, 3) := by decide +kernel
theorem dX1_has_21 : decode cX1_has 21 = .ok (.athrow, 1) := by decide +kernel
theorem dX1_has_22 : decode cX1_has 22 = .ok (.aload_n 0, 1) := by decide +kernel
theorem dX1_has_23 : decode cX1_has 23 = .ok (.getfield 371, 3) := by decide +kernel
theorem dX1_has_26 : decode cX1_has 26 = .ok (.getfield 246, 3) := by decide +kernel
theorem dX1_has_29 : decode cX1_has 29 = .ok (.iload_n 1, 1) := by decide +kernel
theorem dX1_has_30 : decode cX1_has 30 = .ok (.aaload, 1) := by decide +kernel
theorem dX1_has_31 : decode cX1_has 31 = .ok (.areturn, 1) := by decide +kernel
set_option maxHeartbeats 4000000 in
set_option maxRecDepth 100000 in
theorem c_X1_has {G : xG} {n : Nat} {Q : Outcome → xS → Prop} {I : xI} {J : xJ} {R Z : xR} {T : xT} {N B : Nat} (hk : KS Z T N B) {me : Nat} (hme : R 0 0 19 = some me) (hme16 : me < 16) {d : Nat} (hd : d < 8) (hn : 2 ≤ n) (hq : ∀ o, R 46 me d = some o → Q (.returned (some (.ref (T.ad 7 o)))) (I, J, R, Z, T)) (hq0 : R 46 me d = none → Q (.threw (T.ad 3 0)) (xu I 3 0 0 (-2), J, R, Z, T)) : xCall G mX1_has n [.ref (T.ad 0 0), .int (nI d)] (I, J, R, Z, T) Q := by
  refine x_met (L0 := [(1, .ref (T.ad 0 0)), (1, .int (nI d))]) (by decide +kernel) rfl ⟨Nat.le_of_ble_eq_true rfl, rfl⟩ ?_
  refine x_aload_n 1 dX1_has_0 rfl rfl ?_
  refine x_gets 4 dX1_has_1 rfl fl_X1_371 (hk.l0 (by omega)) hme ?_
  refine x_getz 7 dX1_has_4 rfl fl_X1_246 (hk.l9 (by omega)) (hk.z9_4 (by omega)) ?_
  refine x_iload_n 8 dX1_has_7 rfl rfl ?_
  refine x_aldr 9 dX1_has_8 rfl ar_46 rfl (hk.l46 (by omega)) (xb (hk.n46 (by omega)) (by omega) (by omega)) ?_
  refine x_ifnonnull 22 12 dX1_has_9 (by decide) rfl (fun j1 c9 => ?_) (fun c9 => ?_)
  · skip
    refine x_aload_n 23 dX1_has_22 rfl rfl ?_
    refine x_gets 26 dX1_has_23 rfl fl_X1_371 (hk.l0 (by omega)) hme ?_
    refine x_getz 29 dX1_has_26 rfl fl_X1_246 (hk.l9 (by omega)) (hk.z9_4 (by omega)) ?_
    refine x_iload_n 30 dX1_has_29 rfl rfl ?_
    refine x_alds 31 dX1_has_30 rfl ar_46 rfl (hk.l46 (by omega)) (xb (hk.n46 (by omega)) (by omega) (by omega)) c9 ?_
    refine x_areturn dX1_has_31 rfl (Or.inl ⟨_, rfl⟩) ?_
    exact hq _ c9
  · skip
    refine x_aload_n 13 dX1_has_12 rfl rfl ?_
    refine x_getz 16 dX1_has_13 rfl fl_X1_53 (hk.l0 (by omega)) (hk.z0_10 (by omega)) ?_
    refine x_bipush (v := -2) 18 dX1_has_16 rfl rfl ?_
    refine x_callV (as := [.int (-2)]) (rest := []) (i := 0) (n' := n - 1) 21 dX1_has_18 rfl mv_X1_364 rfl rfl (hk.l3 (by omega)) (xnh rfl) (by omega) (xst (Nat.le_of_ble_eq_true rfl)) (c_X4_by hk (by omega) ?_)
    change X _ _ _ _ _ _ _ _ _ _
    refine x_athrow dX1_has_21 (xnh rfl) ?_
    exact hq0 c9
theorem dX1_dropName_0 : decode cX1_dropName 0 = .ok (.aload_n 1, 1) := by decide +kernel
theorem dX1_dropName_1 : decode cX1_dropName 1 = .ok (.dup, 1) := by decide +kernel
theorem dX1_dropName_2 : decode cX1_dropName 2 = .ok (.getfield 185, 3) := by decide +kernel
theorem dX1_dropName_5 : decode cX1_dropName 5 = .ok (.iconst 1, 1) := by decide +kernel
theorem dX1_dropName_6 : decode cX1_dropName 6 = .ok (.isub, 1) := by decide +kernel
theorem dX1_dropName_7 : decode cX1_dropName 7 = .ok (.putfield 185, 3) := by decide +kernel
theorem dX1_dropName_10 : decode cX1_dropName 10 = .ok (.return_, 1) := by decide +kernel
set_option maxHeartbeats 4000000 in
set_option maxRecDepth 100000 in
theorem c_X1_dropName {G : xG} {n : Nat} {Q : Outcome → xS → Prop} {I : xI} {J : xJ} {R Z : xR} {T : xT} {N B : Nat} (hk : KS Z T N B) {i : Nat} (hi : i < N) (hn : 1 ≤ n) (hq : Q (.returned none) (xu I 6 i 2 (I 6 i 2 - 1), J, R, Z, T)) : xCall G mX1_dropName n [.ref (T.ad 0 0), .ref (T.ad 6 i)] (I, J, R, Z, T) Q := by
  refine x_met (L0 := [(1, .ref (T.ad 0 0)), (1, .ref (T.ad 6 i))]) (by decide +kernel) rfl ⟨Nat.le_of_ble_eq_true rfl, rfl⟩ ?_
  refine x_aload_n 1 dX1_dropName_0 rfl rfl ?_
  refine x_dup 2 dX1_dropName_1 rfl rfl ?_
  refine x_geti 5 dX1_dropName_2 rfl fl_X1_185 (hk.l6 (by omega)) ?_
  refine x_iconst (v := 1) 6 dX1_dropName_5 rfl rfl ?_
  refine x_isub 7 dX1_dropName_6 rfl ?_
  refine x_puti 10 dX1_dropName_7 rfl fl_X1_185 rfl rfl (hk.l6 (by omega)) ?_
  refine x_nmI fun I1 hI1 => ?_
  refine x_vreturn dX1_dropName_10 rfl ?_
  rw [hI1]; exact hq
def kDropD (I : xI) (i : Nat) : xI := xu (xu (if I 6 i 11 = I 0 0 21 then I else xu I 6 i 6 (I 6 i 2)) 6 i 11 (I 0 0 21)) 6 i 2 0
theorem dX1_dropDirectory_0 : decode cX1_dropDirectory 0 = .ok (.aload_n 1, 1) := by decide +kernel
theorem dX1_dropDirectory_1 : decode cX1_dropDirectory 1 = .ok (.getfield 261, 3) := by decide +kernel
theorem dX1_dropDirectory_4 : decode cX1_dropDirectory 4 = .ok (.aload_n 0, 1) := by decide +kernel
theorem dX1_dropDirectory_5 : decode cX1_dropDirectory 5 = .ok (.getfield 291, 3) := by decide +kernel
theorem dX1_dropDirectory_8 : decode cX1_dropDirectory 8 = .ok (.if_icmp .eq 11, 3) := by decide +kernel
theorem dX1_dropDirectory_11 : decode cX1_dropDirectory 11 = .ok (.aload_n 1, 1) := by decide +kernel
theorem dX1_dropDirectory_12 : decode cX1_dropDirectory 12 = .ok (.aload_n 1, 1) := by decide +kernel
theorem dX1_dropDirectory_13 : decode cX1_dropDirectory 13 = .ok (.getfield 185, 3) := by decide +kernel
theorem dX1_dropDirectory_16 : decode cX1_dropDirectory 16 = .ok (.putfield 297, 3) := by decide +kernel
theorem dX1_dropDirectory_19 : decode cX1_dropDirectory 19 = .ok (.aload_n 1, 1) := by decide +kernel
theorem dX1_dropDirectory_20 : decode cX1_dropDirectory 20 = .ok (.aload_n 0, 1) := by decide +kernel
theorem dX1_dropDirectory_21 : decode cX1_dropDirectory 21 = .ok (.getfield 291, 3) := by decide +kernel
theorem dX1_dropDirectory_24 : decode cX1_dropDirectory 24 = .ok (.putfield 261, 3) := by decide +kernel
theorem dX1_dropDirectory_27 : decode cX1_dropDirectory 27 = .ok (.aload_n 1, 1) := by decide +kernel
theorem dX1_dropDirectory_28 : decode cX1_dropDirectory 28 = .ok (.iconst 0, 1) := by decide +kernel
theorem dX1_dropDirectory_29 : decode cX1_dropDirectory 29 = .ok (.putfield 185, 3) := by decide +kernel
theorem dX1_dropDirectory_32 : decode cX1_dropDirectory 32 = .ok (.return_, 1) := by decide +kernel
set_option maxHeartbeats 4000000 in
set_option maxRecDepth 100000 in
theorem c_X1_dropDirectory {G : xG} {n : Nat} {Q : Outcome → xS → Prop} {I : xI} {J : xJ} {R Z : xR} {T : xT} {N B : Nat} (hk : KS Z T N B) {i : Nat} (hi : i < N) (hn : 1 ≤ n) (hq : Q (.returned none) (kDropD I i, J, R, Z, T)) : xCall G mX1_dropDirectory n [.ref (T.ad 0 0), .ref (T.ad 6 i)] (I, J, R, Z, T) Q := by
  refine x_met (L0 := [(1, .ref (T.ad 0 0)), (1, .ref (T.ad 6 i))]) (by decide +kernel) rfl ⟨Nat.le_of_ble_eq_true rfl, rfl⟩ ?_
  refine x_aload_n 1 dX1_dropDirectory_0 rfl rfl ?_
  refine x_geti 4 dX1_dropDirectory_1 rfl fl_X1_261 (hk.l6 (by omega)) ?_
  refine x_aload_n 5 dX1_dropDirectory_4 rfl rfl ?_
  refine x_geti 8 dX1_dropDirectory_5 rfl fl_X1_291 (hk.l0 (by omega)) ?_
  refine x_icmp_eq 19 11 dX1_dropDirectory_8 (by decide) rfl (fun c8 => ?_) (fun c8 => ?_)
  · skip
    refine x_aload_n 20 dX1_dropDirectory_19 rfl rfl ?_
    refine x_aload_n 21 dX1_dropDirectory_20 rfl rfl ?_
    refine x_geti 24 dX1_dropDirectory_21 rfl fl_X1_291 (hk.l0 (by omega)) ?_
    refine x_puti 27 dX1_dropDirectory_24 rfl fl_X1_261 rfl rfl (hk.l6 (by omega)) ?_
    refine x_nmI fun I1 hI1 => ?_
    refine x_aload_n 28 dX1_dropDirectory_27 rfl rfl ?_
    refine x_iconst (v := 0) 29 dX1_dropDirectory_28 rfl rfl ?_
    refine x_puti 32 dX1_dropDirectory_29 rfl fl_X1_185 rfl rfl (hk.l6 (by omega)) ?_
    refine x_nmI fun I2 hI2 => ?_
    refine x_vreturn dX1_dropDirectory_32 rfl ?_
    unfold kDropD at hq; rw [if_pos c8] at hq
    rw [hI2, hI1]; exact hq
  · skip
    refine x_aload_n 12 dX1_dropDirectory_11 rfl rfl ?_
    refine x_aload_n 13 dX1_dropDirectory_12 rfl rfl ?_
    refine x_geti 16 dX1_dropDirectory_13 rfl fl_X1_185 (hk.l6 (by omega)) ?_
    refine x_puti 19 dX1_dropDirectory_16 rfl fl_X1_297 rfl rfl (hk.l6 (by omega)) ?_
    refine x_nmI fun I1 hI1 => ?_
    refine x_aload_n 20 dX1_dropDirectory_19 rfl rfl ?_
    refine x_aload_n 21 dX1_dropDirectory_20 rfl rfl ?_
    refine x_geti 24 dX1_dropDirectory_21 rfl fl_X1_291 (hk.l0 (by omega)) ?_
    refine x_puti 27 dX1_dropDirectory_24 rfl fl_X1_261 rfl rfl (hk.l6 (by omega)) ?_
    refine x_nmI fun I2 hI2 => ?_
    refine x_aload_n 28 dX1_dropDirectory_27 rfl rfl ?_
    refine x_iconst (v := 0) 29 dX1_dropDirectory_28 rfl rfl ?_
    refine x_puti 32 dX1_dropDirectory_29 rfl fl_X1_185 rfl rfl (hk.l6 (by omega)) ?_
    refine x_nmI fun I3 hI3 => ?_
    refine x_vreturn dX1_dropDirectory_32 rfl ?_
    unfold kDropD at hq; rw [if_neg c8] at hq
    rw [hI3, hI2, hI1]; rw [xu_c (c := 6) (c' := 0) (by decide)]; exact hq
theorem dX1_freeDescriptor_0 : decode cX1_freeDescriptor 0 = .ok (.bipush 8, 2) := by decide +kernel
theorem dX1_freeDescriptor_2 : decode cX1_freeDescriptor 2 = .ok (.aload_n 0, 1) := by decide +kernel
theorem dX1_freeDescriptor_3 : decode cX1_freeDescriptor 3 = .ok (.getfield 371, 3) := by decide +kernel
theorem dX1_freeDescriptor_6 : decode cX1_freeDescriptor 6 = .ok (.invokevirtual 599, 3) := by decide +kernel
theorem dX1_freeDescriptor_9 : decode cX1_freeDescriptor 9 = .ok (.isub, 1) := by decide +kernel
theorem dX1_freeDescriptor_10 : decode cX1_freeDescriptor 10 = .ok (.iload_n 1, 1) := by decide +kernel
theorem dX1_freeDescriptor_11 : decode cX1_freeDescriptor 11 = .ok (.if_icmp .ge 13, 3) := by decide +kernel
theorem dX1_freeDescriptor_14 : decode cX1_freeDescriptor 14 = .ok (.aload_n 0, 1) := by decide +kernel
theorem dX1_freeDescriptor_15 : decode cX1_freeDescriptor 15 = .ok (.getfield 53, 3) := by decide +kernel
theorem dX1_freeDescriptor_18 : decode cX1_freeDescriptor 18 = .ok (.bipush (-11), 2) := by decide +kernel
theorem dX1_freeDescriptor_20 : decode cX1_freeDescriptor 20 = .ok (.invokevirtual 364, 3) := by decide +kernel
theorem dX1_freeDescriptor_23 : decode cX1_freeDescriptor 23 = .ok (.athrow, 1) := by decide +kernel
theorem dX1_freeDescriptor_24 : decode cX1_freeDescriptor 24 = .ok (.aload_n 0, 1) := by decide +kernel
theorem dX1_freeDescriptor_25 : decode cX1_freeDescriptor 25 = .ok (.getfield 371, 3) := by decide +kernel
theorem dX1_freeDescriptor_28 : decode cX1_freeDescriptor 28 = .ok (.invokevirtual 601, 3) := by decide +kernel
theorem dX1_freeDescriptor_31 : decode cX1_freeDescriptor 31 = .ok (.ireturn, 1) := by decide +kernel
set_option maxHeartbeats 4000000 in
set_option maxRecDepth 100000 in
theorem c_X1_freeDescriptor {G : xG} {n : Nat} {Q : Outcome → xS → Prop} {I : xI} {J : xJ} {R Z : xR} {T : xT} {N B : Nat} (hk : KS Z T N B) {me : Nat} (hme : R 0 0 19 = some me) (hme16 : me < 16) {m : Nat} (hm2 : m ≤ 2) (hn : 2 ≤ n) (hq : ¬ 8 - cntN (fun k => ¬ R 46 me k = none) 8 < m → Q (.returned (some (.int (fstI (fun k => R 46 me k = none) 8)))) (I, J, R, Z, T)) (hq0 : 8 - cntN (fun k => ¬ R 46 me k = none) 8 < m → Q (.threw (T.ad 3 0)) (xu I 3 0 0 (-11), J, R, Z, T)) : xCall G mX1_freeDescriptor n [.ref (T.ad 0 0), .int (nI m)] (I, J, R, Z, T) Q := by
  refine x_met (L0 := [(1, .ref (T.ad 0 0)), (1, .int (nI m))]) (by decide +kernel) rfl ⟨Nat.le_of_ble_eq_true rfl, rfl⟩ ?_
  have hcn := cntN_le (P := fun k => ¬ R 46 me k = none) 8
  refine x_bipush (v := 8) 2 dX1_freeDescriptor_0 rfl rfl ?_
  refine x_aload_n 3 dX1_freeDescriptor_2 rfl rfl ?_
  refine x_gets 6 dX1_freeDescriptor_3 rfl fl_X1_371 (hk.l0 (by omega)) hme ?_
  refine x_callV (as := []) (rest := [.int 8]) (i := me) (n' := n - 1) 9 dX1_freeDescriptor_6 rfl mv_X1_599 rfl rfl (hk.l9 (by omega)) (xnh rfl) (by omega) (xst (Nat.le_of_ble_eq_true rfl)) (c_X10_many hk (by omega) (by omega) ?_)
  change X _ _ _ _ _ _ _ _ _ _
  refine x_isubn 8 (cntN (fun k => ¬ R 46 me k = none) 8) 10 dX1_freeDescriptor_9 rfl rfl rfl (by omega) ?_
  refine x_iload_n 11 dX1_freeDescriptor_10 rfl rfl ?_
  refine x_icmp_ge 24 14 dX1_freeDescriptor_11 (by decide) rfl (fun c11 => ?_) (fun c11 => ?_)
  · skip
    have c11 : m ≤ 8 - (cntN (fun k => ¬ R 46 me k = none) 8) := (nI_leI (a := m) (b := 8 - (cntN (fun k => ¬ R 46 me k = none) 8)) (by omega) (by omega)).mp c11
    refine x_aload_n 25 dX1_freeDescriptor_24 rfl rfl ?_
    refine x_gets 28 dX1_freeDescriptor_25 rfl fl_X1_371 (hk.l0 (by omega)) hme ?_
    refine x_callV (as := []) (rest := []) (i := me) (n' := n - 1) 31 dX1_freeDescriptor_28 rfl mv_X1_601 rfl rfl (hk.l9 (by omega)) (xnh rfl) (by omega) (xst (Nat.le_of_ble_eq_true rfl)) (c_X10_free hk (by omega) (by omega) ?_)
    change X _ _ _ _ _ _ _ _ _ _
    refine x_ireturn dX1_freeDescriptor_31 rfl ?_
    exact hq (by omega)
  · skip
    have c11 : ¬ (m ≤ 8 - (cntN (fun k => ¬ R 46 me k = none) 8)) := fun h => c11 ((nI_leI (a := m) (b := 8 - (cntN (fun k => ¬ R 46 me k = none) 8)) (by omega) (by omega)).mpr h)
    refine x_aload_n 15 dX1_freeDescriptor_14 rfl rfl ?_
    refine x_getz 18 dX1_freeDescriptor_15 rfl fl_X1_53 (hk.l0 (by omega)) (hk.z0_10 (by omega)) ?_
    refine x_bipush (v := -11) 20 dX1_freeDescriptor_18 rfl rfl ?_
    refine x_callV (as := [.int (-11)]) (rest := []) (i := 0) (n' := n - 1) 23 dX1_freeDescriptor_20 rfl mv_X1_364 rfl rfl (hk.l3 (by omega)) (xnh rfl) (by omega) (xst (Nat.le_of_ble_eq_true rfl)) (c_X4_by hk (by omega) ?_)
    change X _ _ _ _ _ _ _ _ _ _
    refine x_athrow dX1_freeDescriptor_23 (xnh rfl) ?_
    exact hq0 (by omega)
/-- a file is cut, or made longer -/
def kSetLen (I : xI) (i m : Nat) : xI := xu (xfil I 36 i m (max m (iN (I 6 i 3))) (fun _ => 0)) 6 i 3 (nI m)
theorem dX1_setLength_0 : decode cX1_setLength 0 = .ok (.iload_n 2, 1) := by decide +kernel
theorem dX1_setLength_1 : decode cX1_setLength 1 = .ok (.istore_n 3, 1) := by decide +kernel
theorem dX1_setLength_2 : decode cX1_setLength 2 = .ok (.iload_n 3, 1) := by decide +kernel
theorem dX1_setLength_3 : decode cX1_setLength 3 = .ok (.aload_n 1, 1) := by decide +kernel
theorem dX1_setLength_4 : decode cX1_setLength 4 = .ok (.getfield 285, 3) := by decide +kernel
theorem dX1_setLength_7 : decode cX1_setLength 7 = .ok (.if_icmp .ge 16, 3) := by decide +kernel
theorem dX1_setLength_10 : decode cX1_setLength 10 = .ok (.aload_n 1, 1) := by decide +kernel
theorem dX1_setLength_11 : decode cX1_setLength 11 = .ok (.getfield 279, 3) := by decide +kernel
theorem dX1_setLength_14 : decode cX1_setLength 14 = .ok (.iload_n 3, 1) := by decide +kernel
theorem dX1_setLength_15 : decode cX1_setLength 15 = .ok (.iconst 0, 1) := by decide +kernel
theorem dX1_setLength_16 : decode cX1_setLength 16 = .ok (.bastore, 1) := by decide +kernel
theorem dX1_setLength_17 : decode cX1_setLength 17 = .ok (.iinc 3 1, 3) := by decide +kernel
theorem dX1_setLength_20 : decode cX1_setLength 20 = .ok (.goto (-18), 3) := by decide +kernel
theorem dX1_setLength_23 : decode cX1_setLength 23 = .ok (.aload_n 1, 1) := by decide +kernel
theorem dX1_setLength_24 : decode cX1_setLength 24 = .ok (.iload_n 2, 1) := by decide +kernel
theorem dX1_setLength_25 : decode cX1_setLength 25 = .ok (.putfield 285, 3) := by decide +kernel
theorem dX1_setLength_28 : decode cX1_setLength 28 = .ok (.return_, 1) := by decide +kernel
set_option maxHeartbeats 4000000 in
set_option maxRecDepth 100000 in
theorem l_X1_setLength {G : xG} {n a b : Nat} {Q : Outcome → xS → Prop} {J : xJ} {Z : xR} {T : xT} {R : xR} {N B : Nat} (hk : KS Z T N B) {i m t : Nat} (hi : i < N) (ht : t ≤ 8192 ∧ m ≤ 8192) {I0 : xI} (hs : I0 6 i 3 = nI t) (hx : X G mX1_setLength n a b Q (xfil I0 36 i m (max m t) (fun _ => 0), J, R, Z, T) 23 [(1, .ref (T.ad 0 0)), (1, .ref (T.ad 6 i)), (1, .int (nI m)), xo] []) (k : Nat) (I : xI) (hn : 1 ≤ n) :
    (m ≤ k ∧ k ≤ max m t) → (I = xfil I0 36 i m k (fun _ => 0)) → X G mX1_setLength n a b Q (I, J, R, Z, T) 2 [(1, .ref (T.ad 0 0)), (1, .ref (T.ad 6 i)), (1, .int (nI m)), (1, .int (nI k))] [] := by
  induction hm : t - k using Nat.strongRecOn generalizing k I with
  | _ m_ ih =>
    intro h8 hI
    have hnb := hk.nb
    refine x_iload_n 3 dX1_setLength_2 rfl rfl ?_
    refine x_aload_n 4 dX1_setLength_3 rfl rfl ?_
    refine x_geti 7 dX1_setLength_4 rfl fl_X1_285 (hk.l6 (by omega)) ?_
    refine x_vi (w := nI t) (by rw [hI, xfil_c (by decide)]; exact hs) ?_
    refine x_icmp_ge 23 10 dX1_setLength_7 (by decide) rfl (fun c7 => ?_) (fun c7 => ?_)
    · skip
      have c7 : t ≤ k := (nI_leI (a := t) (b := k) (by omega) (by omega)).mp c7
      refine x_fgt [(1, .ref (T.ad 0 0)), (1, .ref (T.ad 6 i)), (1, .int (nI m)), xo] ⟨Or.inr rfl, Or.inr rfl, Or.inr rfl, Or.inl rfl, trivial⟩ ?_
      have e : k = max m t := by omega
      rw [hI, e]; exact hx
    · skip
      have c7 : ¬ (t ≤ k) := fun h => c7 ((nI_leI (a := t) (b := k) (by omega) (by omega)).mpr h)
      refine x_aload_n 11 dX1_setLength_10 rfl rfl ?_
      refine x_getz 14 dX1_setLength_11 rfl fl_X1_279 (hk.l6 (by omega)) (hk.z6_5 (by omega)) ?_
      refine x_iload_n 15 dX1_setLength_14 rfl rfl ?_
      refine x_iconst (v := 0) 16 dX1_setLength_15 rfl rfl ?_
      refine x_bast 17 dX1_setLength_16 rfl ar_36 (by decide) (by decide) (hk.l36 (by omega)) (xb (hk.n36 (by omega)) (by omega) (by omega)) ?_
      refine x_nmI fun I1 hI1 => ?_
      refine x_iinc 20 [(1, .ref (T.ad 0 0)), (1, .ref (T.ad 6 i)), (1, .int (nI m)), (1, .int (nI (k + 1)))] dX1_setLength_17 rfl (by decide) rfl (xi_1 k) rfl ?_
      refine x_goto 2 dX1_setLength_20 (by decide) ?_
      exact ih _ (by rw [← hm]; omega) (k + 1) I1 rfl (by omega) (by rw [hI1, hI]; exact xfil_step (by omega) rfl)
set_option maxHeartbeats 4000000 in
set_option maxRecDepth 100000 in
theorem c_X1_setLength {G : xG} {n : Nat} {Q : Outcome → xS → Prop} {I : xI} {J : xJ} {R Z : xR} {T : xT} {N B : Nat} (hk : KS Z T N B) {i m : Nat} (hi : i < N) (hm8 : m ≤ 8192) (hl : kLn (I 6 i 3) 8192) (hn : 1 ≤ n) (hq : Q (.returned none) (kSetLen I i m, J, R, Z, T)) : xCall G mX1_setLength n [.ref (T.ad 0 0), .ref (T.ad 6 i), .int (nI m)] (I, J, R, Z, T) Q := by
  refine x_met (L0 := [(1, .ref (T.ad 0 0)), (1, .ref (T.ad 6 i)), (1, .int (nI m)), xo]) (by decide +kernel) rfl ⟨Nat.le_of_ble_eq_true rfl, rfl⟩ ?_
  refine x_iload_n 1 dX1_setLength_0 rfl rfl ?_
  refine x_istore_n 2 [(1, .ref (T.ad 0 0)), (1, .ref (T.ad 6 i)), (1, .int (nI m)), (1, .int (nI m))] dX1_setLength_1 rfl (by decide) rfl ?_
  refine l_X1_setLength (t := iN (I 6 i 3)) hk hi ⟨hl.2, hm8⟩ hl.1 ?_ m I hn (by omega) (xfil_0 _ _ _ _ _).symm
  refine x_aload_n 24 dX1_setLength_23 rfl rfl ?_
  refine x_iload_n 25 dX1_setLength_24 rfl rfl ?_
  refine x_puti 28 dX1_setLength_25 rfl fl_X1_285 rfl rfl (hk.l6 (by omega)) ?_
  refine x_nmI fun I1 hI1 => ?_
  refine x_vreturn dX1_setLength_28 rfl ?_
  rw [hI1]; exact hq
def kClr1 (w : Int32) (I : xI) (i : Nat) : xI := if (if I 6 i 12 = w then xu I 6 i 12 (-1) else I) 6 i 11 = w then xu (if I 6 i 12 = w then xu I 6 i 12 (-1) else I) 6 i 11 (-1) else (if I 6 i 12 = w then xu I 6 i 12 (-1) else I)
theorem dX1_clearMarks_0 : decode cX1_clearMarks 0 = .ok (.aload_n 0, 1) := by decide +kernel
theorem dX1_clearMarks_1 : decode cX1_clearMarks 1 = .ok (.getfield 115, 3) := by decide +kernel
theorem dX1_clearMarks_4 : decode cX1_clearMarks 4 = .ok (.astore_n 2, 1) := by decide +kernel
theorem dX1_clearMarks_5 : decode cX1_clearMarks 5 = .ok (.aload_n 2, 1) := by decide +kernel
theorem dX1_clearMarks_6 : decode cX1_clearMarks 6 = .ok (.arraylength, 1) := by decide +kernel
theorem dX1_clearMarks_7 : decode cX1_clearMarks 7 = .ok (.istore_n 3, 1) := by decide +kernel
theorem dX1_clearMarks_8 : decode cX1_clearMarks 8 = .ok (.iconst 0, 1) := by decide +kernel
theorem dX1_clearMarks_9 : decode cX1_clearMarks 9 = .ok (.istore 4, 2) := by decide +kernel
theorem dX1_clearMarks_11 : decode cX1_clearMarks 11 = .ok (.iload 4, 2) := by decide +kernel
theorem dX1_clearMarks_13 : decode cX1_clearMarks 13 = .ok (.iload_n 3, 1) := by decide +kernel
theorem dX1_clearMarks_14 : decode cX1_clearMarks 14 = .ok (.if_icmp .ge 45, 3) := by decide +kernel
theorem dX1_clearMarks_17 : decode cX1_clearMarks 17 = .ok (.aload_n 2, 1) := by decide +kernel
theorem dX1_clearMarks_18 : decode cX1_clearMarks 18 = .ok (.iload 4, 2) := by decide +kernel
theorem dX1_clearMarks_20 : decode cX1_clearMarks 20 = .ok (.aaload, 1) := by decide +kernel
theorem dX1_clearMarks_21 : decode cX1_clearMarks 21 = .ok (.astore 5, 2) := by decide +kernel
theorem dX1_clearMarks_23 : decode cX1_clearMarks 23 = .ok (.aload 5, 2) := by decide +kernel
theorem dX1_clearMarks_25 : decode cX1_clearMarks 25 = .ok (.getfield 294, 3) := by decide +kernel
theorem dX1_clearMarks_28 : decode cX1_clearMarks 28 = .ok (.iload_n 1, 1) := by decide +kernel
theorem dX1_clearMarks_29 : decode cX1_clearMarks 29 = .ok (.if_icmp .ne 9, 3) := by decide +kernel
theorem dX1_clearMarks_32 : decode cX1_clearMarks 32 = .ok (.aload 5, 2) := by decide +kernel
theorem dX1_clearMarks_34 : decode cX1_clearMarks 34 = .ok (.iconst (-1), 1) := by decide +kernel
theorem dX1_clearMarks_35 : decode cX1_clearMarks 35 = .ok (.putfield 294, 3) := by decide +kernel
theorem dX1_clearMarks_38 : decode cX1_clearMarks 38 = .ok (.aload 5, 2) := by decide +kernel
theorem dX1_clearMarks_40 : decode cX1_clearMarks 40 = .ok (.getfield 261, 3) := by decide +kernel
theorem dX1_clearMarks_43 : decode cX1_clearMarks 43 = .ok (.iload_n 1, 1) := by decide +kernel
theorem dX1_clearMarks_44 : decode cX1_clearMarks 44 = .ok (.if_icmp .ne 9, 3) := by decide +kernel
theorem dX1_clearMarks_47 : decode cX1_clearMarks 47 = .ok (.aload 5, 2) := by decide +kernel
theorem dX1_clearMarks_49 : decode cX1_clearMarks 49 = .ok (.iconst (-1), 1) := by decide +kernel
theorem dX1_clearMarks_50 : decode cX1_clearMarks 50 = .ok (.putfield 261, 3) := by decide +kernel
theorem dX1_clearMarks_53 : decode cX1_clearMarks 53 = .ok (.iinc 4 1, 3) := by decide +kernel
theorem dX1_clearMarks_56 : decode cX1_clearMarks 56 = .ok (.goto (-45), 3) := by decide +kernel
theorem dX1_clearMarks_59 : decode cX1_clearMarks 59 = .ok (.return_, 1) := by decide +kernel
set_option maxHeartbeats 4000000 in
set_option maxRecDepth 100000 in
theorem l_X1_clearMarks {G : xG} {n a b : Nat} {Q : Outcome → xS → Prop} {J : xJ} {Z : xR} {T : xT} {R : xR} {I0 : xI} {N B : Nat} (hk : KS Z T N B) {w : Int32} (hq : Q (.returned none) (itA (kClr1 w) I0 N, J, R, Z, T)) (k : Nat) (I : xI) (hn : 1 ≤ n) :
    (k ≤ N) → (I = itA (kClr1 w) I0 k) → X G mX1_clearMarks n a b Q (I, J, R, Z, T) 11 [(1, .ref (T.ad 0 0)), (1, .int w), (1, .ref (T.ad 23 0)), (1, .int (nI N)), (1, .int (nI k)), xo] [] := by
  induction hm : N - k using Nat.strongRecOn generalizing k I with
  | _ m_ ih =>
    intro h8 hI
    have hnb := hk.nb
    refine x_iload 13 dX1_clearMarks_11 rfl rfl ?_
    refine x_iload_n 14 dX1_clearMarks_13 rfl rfl ?_
    refine x_icmp_ge 59 17 dX1_clearMarks_14 (by decide) rfl (fun c14 => ?_) (fun c14 => ?_)
    · skip
      have c14 : N ≤ k := (nI_leI (a := N) (b := k) (by omega) (by omega)).mp c14
      refine x_vreturn dX1_clearMarks_59 rfl ?_
      have e : k = N := by omega
      rw [hI, e]; exact hq
    · skip
      have c14 : ¬ (N ≤ k) := fun h => c14 ((nI_leI (a := N) (b := k) (by omega) (by omega)).mpr h)
      refine x_aload_n 18 dX1_clearMarks_17 rfl rfl ?_
      refine x_iload 20 dX1_clearMarks_18 rfl rfl ?_
      refine x_aldz 21 dX1_clearMarks_20 rfl ar_23 rfl (hk.l23 (by omega)) (xb (hk.n23 (by omega)) (by omega) (by omega)) (hk.z23 (by omega)) ?_
      refine x_astore 23 [(1, .ref (T.ad 0 0)), (1, .int w), (1, .ref (T.ad 23 0)), (1, .int (nI N)), (1, .int (nI k)), (1, .ref (T.ad 6 k))] dX1_clearMarks_21 rfl (by decide) rfl ?_
      refine x_aload 25 dX1_clearMarks_23 rfl rfl ?_
      refine x_geti 28 dX1_clearMarks_25 rfl fl_X1_294 (hk.l6 (by omega)) ?_
      refine x_iload_n 29 dX1_clearMarks_28 rfl rfl ?_
      refine x_icmp_ne 38 32 dX1_clearMarks_29 (by decide) rfl (fun c29 => ?_) (fun c29 => ?_)
      · skip
        refine x_aload 40 dX1_clearMarks_38 rfl rfl ?_
        refine x_geti 43 dX1_clearMarks_40 rfl fl_X1_261 (hk.l6 (by omega)) ?_
        refine x_iload_n 44 dX1_clearMarks_43 rfl rfl ?_
        refine x_icmp_ne 53 47 dX1_clearMarks_44 (by decide) rfl (fun c44 => ?_) (fun c44 => ?_)
        · skip
          refine x_iinc 56 [(1, .ref (T.ad 0 0)), (1, .int w), (1, .ref (T.ad 23 0)), (1, .int (nI N)), (1, .int (nI (k + 1))), (1, .ref (T.ad 6 k))] dX1_clearMarks_53 rfl (by decide) rfl (xi_1 k) rfl ?_
          refine x_goto 11 dX1_clearMarks_56 (by decide) ?_
          refine x_fgt [(1, .ref (T.ad 0 0)), (1, .int w), (1, .ref (T.ad 23 0)), (1, .int (nI N)), (1, .int (nI (k + 1))), xo] ⟨Or.inr rfl, Or.inr rfl, Or.inr rfl, Or.inr rfl, Or.inr rfl, Or.inl rfl, trivial⟩ ?_
          exact ih _ (by rw [← hm]; omega) (k + 1) I rfl (by omega) (by show _ = kClr1 w (itA (kClr1 w) I0 k) k; rw [← hI]; unfold kClr1; rw [if_neg c29, if_neg c44])
        · skip
          refine x_aload 49 dX1_clearMarks_47 rfl rfl ?_
          refine x_iconst (v := -1) 50 dX1_clearMarks_49 rfl rfl ?_
          refine x_puti 53 dX1_clearMarks_50 rfl fl_X1_261 rfl rfl (hk.l6 (by omega)) ?_
          refine x_nmI fun I1 hI1 => ?_
          refine x_iinc 56 [(1, .ref (T.ad 0 0)), (1, .int w), (1, .ref (T.ad 23 0)), (1, .int (nI N)), (1, .int (nI (k + 1))), (1, .ref (T.ad 6 k))] dX1_clearMarks_53 rfl (by decide) rfl (xi_1 k) rfl ?_
          refine x_goto 11 dX1_clearMarks_56 (by decide) ?_
          refine x_fgt [(1, .ref (T.ad 0 0)), (1, .int w), (1, .ref (T.ad 23 0)), (1, .int (nI N)), (1, .int (nI (k + 1))), xo] ⟨Or.inr rfl, Or.inr rfl, Or.inr rfl, Or.inr rfl, Or.inr rfl, Or.inl rfl, trivial⟩ ?_
          exact ih _ (by rw [← hm]; omega) (k + 1) I1 rfl (by omega) (by show _ = kClr1 w (itA (kClr1 w) I0 k) k; rw [← hI]; unfold kClr1; rw [if_neg c29, if_pos c44, ← hI1])
      · skip
        refine x_aload 34 dX1_clearMarks_32 rfl rfl ?_
        refine x_iconst (v := -1) 35 dX1_clearMarks_34 rfl rfl ?_
        refine x_puti 38 dX1_clearMarks_35 rfl fl_X1_294 rfl rfl (hk.l6 (by omega)) ?_
        refine x_nmI fun I1 hI1 => ?_
        refine x_aload 40 dX1_clearMarks_38 rfl rfl ?_
        refine x_geti 43 dX1_clearMarks_40 rfl fl_X1_261 (hk.l6 (by omega)) ?_
        refine x_iload_n 44 dX1_clearMarks_43 rfl rfl ?_
        refine x_icmp_ne 53 47 dX1_clearMarks_44 (by decide) rfl (fun c44 => ?_) (fun c44 => ?_)
        · skip
          refine x_iinc 56 [(1, .ref (T.ad 0 0)), (1, .int w), (1, .ref (T.ad 23 0)), (1, .int (nI N)), (1, .int (nI (k + 1))), (1, .ref (T.ad 6 k))] dX1_clearMarks_53 rfl (by decide) rfl (xi_1 k) rfl ?_
          refine x_goto 11 dX1_clearMarks_56 (by decide) ?_
          refine x_fgt [(1, .ref (T.ad 0 0)), (1, .int w), (1, .ref (T.ad 23 0)), (1, .int (nI N)), (1, .int (nI (k + 1))), xo] ⟨Or.inr rfl, Or.inr rfl, Or.inr rfl, Or.inr rfl, Or.inr rfl, Or.inl rfl, trivial⟩ ?_
          exact ih _ (by rw [← hm]; omega) (k + 1) I1 rfl (by omega) (by show _ = kClr1 w (itA (kClr1 w) I0 k) k; rw [← hI]; unfold kClr1; rw [if_pos c29, ← hI1, if_neg c44])
        · skip
          refine x_aload 49 dX1_clearMarks_47 rfl rfl ?_
          refine x_iconst (v := -1) 50 dX1_clearMarks_49 rfl rfl ?_
          refine x_puti 53 dX1_clearMarks_50 rfl fl_X1_261 rfl rfl (hk.l6 (by omega)) ?_
          refine x_nmI fun I2 hI2 => ?_
          refine x_iinc 56 [(1, .ref (T.ad 0 0)), (1, .int w), (1, .ref (T.ad 23 0)), (1, .int (nI N)), (1, .int (nI (k + 1))), (1, .ref (T.ad 6 k))] dX1_clearMarks_53 rfl (by decide) rfl (xi_1 k) rfl ?_
          refine x_goto 11 dX1_clearMarks_56 (by decide) ?_
          refine x_fgt [(1, .ref (T.ad 0 0)), (1, .int w), (1, .ref (T.ad 23 0)), (1, .int (nI N)), (1, .int (nI (k + 1))), xo] ⟨Or.inr rfl, Or.inr rfl, Or.inr rfl, Or.inr rfl, Or.inr rfl, Or.inl rfl, trivial⟩ ?_
          exact ih _ (by rw [← hm]; omega) (k + 1) I2 rfl (by omega) (by show _ = kClr1 w (itA (kClr1 w) I0 k) k; rw [← hI]; unfold kClr1; rw [if_pos c29, ← hI1, if_pos c44, ← hI2])
set_option maxHeartbeats 4000000 in
set_option maxRecDepth 100000 in
theorem c_X1_clearMarks {G : xG} {n : Nat} {Q : Outcome → xS → Prop} {I : xI} {J : xJ} {R Z : xR} {T : xT} {N B : Nat} (hk : KS Z T N B) {w : Int32} (hn : 1 ≤ n) (hq : Q (.returned none) (itA (kClr1 w) I N, J, R, Z, T)) : xCall G mX1_clearMarks n [.ref (T.ad 0 0), .int w] (I, J, R, Z, T) Q := by
  refine x_met (L0 := [(1, .ref (T.ad 0 0)), (1, .int w), xo, xo, xo, xo]) (by decide +kernel) rfl ⟨Nat.le_of_ble_eq_true rfl, rfl⟩ ?_
  have hnb := hk.nb
  refine x_aload_n 1 dX1_clearMarks_0 rfl rfl ?_
  refine x_getz 4 dX1_clearMarks_1 rfl fl_X1_115 (hk.l0 (by omega)) (hk.z0_5 (by omega)) ?_
  refine x_astore_n 5 [(1, .ref (T.ad 0 0)), (1, .int w), (1, .ref (T.ad 23 0)), xo, xo, xo] dX1_clearMarks_4 rfl (by decide) rfl ?_
  refine x_aload_n 6 dX1_clearMarks_5 rfl rfl ?_
  refine x_alen 7 dX1_clearMarks_6 rfl ar_23 (hk.l23 (by omega)) ?_
  refine x_vi (congrArg nI (hk.n23 (by omega))) ?_
  refine x_istore_n 8 [(1, .ref (T.ad 0 0)), (1, .int w), (1, .ref (T.ad 23 0)), (1, .int (nI N)), xo, xo] dX1_clearMarks_7 rfl (by decide) rfl ?_
  refine x_iconst (v := 0) 9 dX1_clearMarks_8 rfl rfl ?_
  refine x_istore 11 [(1, .ref (T.ad 0 0)), (1, .int w), (1, .ref (T.ad 23 0)), (1, .int (nI N)), (1, .int 0), xo] dX1_clearMarks_9 rfl (by decide) rfl ?_
  exact l_X1_clearMarks hk hq 0 I hn (by omega) rfl
