set_option maxRecDepth 100000
theorem dX5_lastEntry_0 : decode cX5_lastEntry 0 = .ok (.aload_n 0, 1) := by decide +kernel
theorem dX5_lastEntry_1 : decode cX5_lastEntry 1 = .ok (.aload_n 0, 1) := by decide +kernel
theorem dX5_lastEntry_2 : decode cX5_lastEntry 2 = .ok (.getfield 22, 3) := by decide +kernel
theorem dX5_lastEntry_5 : decode cX5_lastEntry 5 = .ok (.iconst 1, 1) := by decide +kernel
theorem dX5_lastEntry_6 : decode cX5_lastEntry 6 = .ok (.isub, 1) := by decide +kernel
theorem dX5_lastEntry_7 : decode cX5_lastEntry 7 = .ok (.aload_n 1, 1) := by decide +kernel
theorem dX5_lastEntry_8 : decode cX5_lastEntry 8 = .ok (.invokevirtual 102, 3) := by decide +kernel
theorem dX5_lastEntry_11 : decode cX5_lastEntry 11 = .ok (.areturn, 1) := by decide +kernel
set_option maxHeartbeats 4000000 in
set_option maxRecDepth 100000 in
theorem c_X5_lastEntry {G : xG} {n : Nat} {Q : Outcome → xS → Prop} {I : xI} {J : xJ} {R Z : xR} {T : xT} {N B : Nat} (hk : KS Z T N B) {i st : Nat} (hi : i < 2) {fr lg : Nat → Nat} (hp : PS I i st fr lg) {d : Nat} (h1 : 1 ≤ st) (hd : d < N) (hsl : kSl I N) (hn : 4 ≤ n) (hq : Q (.returned (some (va_re (T.ad 6) (iEntry I d (I 27 0) (fr (st - 1)) (lg (st - 1)))))) (I, J, R, Z, T)) : xCall G mX5_lastEntry n [.ref (T.ad 4 i), .ref (T.ad 6 d)] (I, J, R, Z, T) Q := by
  refine x_met (L0 := [(1, .ref (T.ad 4 i)), (1, .ref (T.ad 6 d))]) (by decide +kernel) rfl ⟨Nat.le_of_ble_eq_true rfl, rfl⟩ ?_
  have hp12 := hp.2.1
  have hpk := hp.2.2 (st - 1) (by omega)
  have hnb := hk.nb
  refine x_aload_n 1 dX5_lastEntry_0 rfl rfl ?_
  refine x_aload_n 2 dX5_lastEntry_1 rfl rfl ?_
  refine x_geti 5 dX5_lastEntry_2 rfl fl_X5_22 (hk.l4 (by omega)) ?_
  refine x_vi (w := nI st) hp.1 ?_
  refine x_iconst (v := 1) 6 dX5_lastEntry_5 rfl rfl ?_
  refine x_isubn st 1 7 dX5_lastEntry_6 rfl rfl rfl (by omega) ?_
  refine x_aload_n 8 dX5_lastEntry_7 rfl rfl ?_
  refine x_callV (as := [.int (nI (st - 1)), .ref (T.ad 6 d)]) (rest := []) (i := i) (n' := n - 1) 11 dX5_lastEntry_8 rfl mv_X5_102 rfl rfl (hk.l4 (by omega)) (xnh rfl) (by omega) (xst (Nat.le_of_ble_eq_true rfl)) (c_X5_entry hk hi hp (by omega) hd hsl (by omega) ?_)
  change X _ _ _ _ _ _ _ _ _ _
  refine x_areturn_r dX5_lastEntry_11 rfl (Or.inl ⟨_, rfl⟩) ?_
  exact hq
theorem dX5_lastSlot_0 : decode cX5_lastSlot 0 = .ok (.aload_n 1, 1) := by decide +kernel
theorem dX5_lastSlot_1 : decode cX5_lastSlot 1 = .ok (.aload_n 0, 1) := by decide +kernel
theorem dX5_lastSlot_2 : decode cX5_lastSlot 2 = .ok (.getfield 3, 3) := by decide +kernel
theorem dX5_lastSlot_5 : decode cX5_lastSlot 5 = .ok (.getfield 26, 3) := by decide +kernel
theorem dX5_lastSlot_8 : decode cX5_lastSlot 8 = .ok (.aload_n 0, 1) := by decide +kernel
theorem dX5_lastSlot_9 : decode cX5_lastSlot 9 = .ok (.getfield 15, 3) := by decide +kernel
theorem dX5_lastSlot_12 : decode cX5_lastSlot 12 = .ok (.aload_n 0, 1) := by decide +kernel
theorem dX5_lastSlot_13 : decode cX5_lastSlot 13 = .ok (.getfield 22, 3) := by decide +kernel
theorem dX5_lastSlot_16 : decode cX5_lastSlot 16 = .ok (.iconst 1, 1) := by decide +kernel
theorem dX5_lastSlot_17 : decode cX5_lastSlot 17 = .ok (.isub, 1) := by decide +kernel
theorem dX5_lastSlot_18 : decode cX5_lastSlot 18 = .ok (.iaload, 1) := by decide +kernel
theorem dX5_lastSlot_19 : decode cX5_lastSlot 19 = .ok (.aload_n 0, 1) := by decide +kernel
theorem dX5_lastSlot_20 : decode cX5_lastSlot 20 = .ok (.getfield 19, 3) := by decide +kernel
theorem dX5_lastSlot_23 : decode cX5_lastSlot 23 = .ok (.aload_n 0, 1) := by decide +kernel
theorem dX5_lastSlot_24 : decode cX5_lastSlot 24 = .ok (.getfield 22, 3) := by decide +kernel
theorem dX5_lastSlot_27 : decode cX5_lastSlot 27 = .ok (.iconst 1, 1) := by decide +kernel
theorem dX5_lastSlot_28 : decode cX5_lastSlot 28 = .ok (.isub, 1) := by decide +kernel
theorem dX5_lastSlot_29 : decode cX5_lastSlot 29 = .ok (.iaload, 1) := by decide +kernel
theorem dX5_lastSlot_30 : decode cX5_lastSlot 30 = .ok (.invokevirtual 60, 3) := by decide +kernel
theorem dX5_lastSlot_33 : decode cX5_lastSlot 33 = .ok (.ireturn, 1) := by decide +kernel
set_option maxHeartbeats 4000000 in
set_option maxRecDepth 100000 in
theorem c_X5_lastSlot {G : xG} {n : Nat} {Q : Outcome → xS → Prop} {I : xI} {J : xJ} {R Z : xR} {T : xT} {N B : Nat} (hk : KS Z T N B) {i st : Nat} (hi : i < 2) {fr lg : Nat → Nat} (hp : PS I i st fr lg) {d : Nat} (h1 : 1 ≤ st) (hd : d < N) (hn : 3 ≤ n) (hq : Q (.returned (some (.int (iSlot I d (I 27 0) (fr (st - 1)) (lg (st - 1)))))) (I, J, R, Z, T)) : xCall G mX5_lastSlot n [.ref (T.ad 4 i), .ref (T.ad 6 d)] (I, J, R, Z, T) Q := by
  refine x_met (L0 := [(1, .ref (T.ad 4 i)), (1, .ref (T.ad 6 d))]) (by decide +kernel) rfl ⟨Nat.le_of_ble_eq_true rfl, rfl⟩ ?_
  have hp12 := hp.2.1
  have hpk := hp.2.2 (st - 1) (by omega)
  have hnb := hk.nb
  refine x_aload_n 1 dX5_lastSlot_0 rfl rfl ?_
  refine x_aload_n 2 dX5_lastSlot_1 rfl rfl ?_
  refine x_getz 5 dX5_lastSlot_2 rfl fl_X5_3 (hk.l4 (by omega)) (hk.z4_4 (by omega)) ?_
  refine x_getz 8 dX5_lastSlot_5 rfl fl_X5_26 (hk.l0 (by omega)) (hk.z0_11 (by omega)) ?_
  refine x_aload_n 9 dX5_lastSlot_8 rfl rfl ?_
  refine x_getz 12 dX5_lastSlot_9 rfl fl_X5_15 (hk.l4 (by omega)) (hk.z4_0 (by omega)) ?_
  refine x_aload_n 13 dX5_lastSlot_12 rfl rfl ?_
  refine x_geti 16 dX5_lastSlot_13 rfl fl_X5_22 (hk.l4 (by omega)) ?_
  refine x_vi (w := nI st) hp.1 ?_
  refine x_iconst (v := 1) 17 dX5_lastSlot_16 rfl rfl ?_
  refine x_isubn st 1 18 dX5_lastSlot_17 rfl rfl rfl (by omega) ?_
  refine x_iald 19 dX5_lastSlot_18 rfl ar_33 (hk.l33 (by omega)) (xb (hk.n33 (by omega)) (by omega) (by omega)) ?_
  refine x_vi (w := nI (fr (st - 1))) hpk.1 ?_
  refine x_aload_n 20 dX5_lastSlot_19 rfl rfl ?_
  refine x_getz 23 dX5_lastSlot_20 rfl fl_X5_19 (hk.l4 (by omega)) (hk.z4_1 (by omega)) ?_
  refine x_aload_n 24 dX5_lastSlot_23 rfl rfl ?_
  refine x_geti 27 dX5_lastSlot_24 rfl fl_X5_22 (hk.l4 (by omega)) ?_
  refine x_vi (w := nI st) hp.1 ?_
  refine x_iconst (v := 1) 28 dX5_lastSlot_27 rfl rfl ?_
  refine x_isubn st 1 29 dX5_lastSlot_28 rfl rfl rfl (by omega) ?_
  refine x_iald 30 dX5_lastSlot_29 rfl ar_34 (hk.l34 (by omega)) (xb (hk.n34 (by omega)) (by omega) (by omega)) ?_
  refine x_vi (w := nI (lg (st - 1))) hpk.2.1 ?_
  refine x_callV (as := [.ref (T.ad 27 0), .int (nI (fr (st - 1))), .int (nI (lg (st - 1)))]) (rest := []) (i := d) (n' := n - 1) 33 dX5_lastSlot_30 rfl mv_X5_60 rfl rfl (hk.l6 (by omega)) (xnh rfl) (by omega) (xst (Nat.le_of_ble_eq_true rfl)) (c_X7_slotOf hk (by omega) ar_27 (hk.l27 (by omega)) ⟨(by rw [(hk.n27 (by omega))]; omega), by omega⟩ (by omega) ?_)
  change X _ _ _ _ _ _ _ _ _ _
  refine x_ireturn dX5_lastSlot_33 rfl ?_
  exact hq
def pPut (I : xI) (fr lg : Nat → Nat) (k d s f : Nat) : xI := xu (xu (iName I d s (I 27 0) (fr k) (lg k)) 41 d s (nI f + 1)) 42 d s (I 0 0 21)
theorem dX5_put_0 : decode cX5_put 0 = .ok (.aload_n 1, 1) := by decide +kernel
theorem dX5_put_1 : decode cX5_put 1 = .ok (.iload_n 2, 1) := by decide +kernel
theorem dX5_put_2 : decode cX5_put 2 = .ok (.aload_n 0, 1) := by decide +kernel
theorem dX5_put_3 : decode cX5_put 3 = .ok (.getfield 3, 3) := by decide +kernel
theorem dX5_put_6 : decode cX5_put 6 = .ok (.getfield 26, 3) := by decide +kernel
theorem dX5_put_9 : decode cX5_put 9 = .ok (.aload_n 0, 1) := by decide +kernel
theorem dX5_put_10 : decode cX5_put 10 = .ok (.getfield 15, 3) := by decide +kernel
theorem dX5_put_13 : decode cX5_put 13 = .ok (.aload_n 0, 1) := by decide +kernel
theorem dX5_put_14 : decode cX5_put 14 = .ok (.getfield 22, 3) := by decide +kernel
theorem dX5_put_17 : decode cX5_put 17 = .ok (.iconst 1, 1) := by decide +kernel
theorem dX5_put_18 : decode cX5_put 18 = .ok (.isub, 1) := by decide +kernel
theorem dX5_put_19 : decode cX5_put 19 = .ok (.iaload, 1) := by decide +kernel
theorem dX5_put_20 : decode cX5_put 20 = .ok (.aload_n 0, 1) := by decide +kernel
theorem dX5_put_21 : decode cX5_put 21 = .ok (.getfield 19, 3) := by decide +kernel
theorem dX5_put_24 : decode cX5_put 24 = .ok (.aload_n 0, 1) := by decide +kernel
theorem dX5_put_25 : decode cX5_put 25 = .ok (.getfield 22, 3) := by decide +kernel
theorem dX5_put_28 : decode cX5_put 28 = .ok (.iconst 1, 1) := by decide +kernel
theorem dX5_put_29 : decode cX5_put 29 = .ok (.isub, 1) := by decide +kernel
theorem dX5_put_30 : decode cX5_put 30 = .ok (.iaload, 1) := by decide +kernel
theorem dX5_put_31 : decode cX5_put 31 = .ok (.invokevirtual 130, 3) := by decide +kernel
theorem dX5_put_34 : decode cX5_put 34 = .ok (.aload_n 1, 1) := by decide +kernel
theorem dX5_put_35 : decode cX5_put 35 = .ok (.iload_n 2, 1) := by decide +kernel
theorem dX5_put_36 : decode cX5_put 36 = .ok (.aload_n 3, 1) := by decide +kernel
theorem dX5_put_37 : decode cX5_put 37 = .ok (.getfield 47, 3) := by decide +kernel
theorem dX5_put_40 : decode cX5_put 40 = .ok (.aload_n 0, 1) := by decide +kernel
theorem dX5_put_41 : decode cX5_put 41 = .ok (.getfield 3, 3) := by decide +kernel
theorem dX5_put_44 : decode cX5_put 44 = .ok (.getfield 119, 3) := by decide +kernel
theorem dX5_put_47 : decode cX5_put 47 = .ok (.invokevirtual 134, 3) := by decide +kernel
theorem dX5_put_50 : decode cX5_put 50 = .ok (.return_, 1) := by decide +kernel
set_option maxHeartbeats 4000000 in
set_option maxRecDepth 100000 in
theorem c_X5_put {G : xG} {n : Nat} {Q : Outcome → xS → Prop} {I : xI} {J : xJ} {R Z : xR} {T : xT} {N B : Nat} (hk : KS Z T N B) {i st : Nat} (hi : i < 2) {fr lg : Nat → Nat} (hp : PS I i st fr lg) {d : Nat} (h1 : 1 ≤ st) (hd : d < N) {s f : Nat} (hs : s < 512) (hf : f < N) (hnum : I 6 f 0 = nI f) (hn : 3 ≤ n) (hq : Q (.returned none) (pPut I fr lg (st - 1) d s f, J, R, Z, T)) : xCall G mX5_put n [.ref (T.ad 4 i), .ref (T.ad 6 d), .int (nI s), .ref (T.ad 6 f)] (I, J, R, Z, T) Q := by
  refine x_met (L0 := [(1, .ref (T.ad 4 i)), (1, .ref (T.ad 6 d)), (1, .int (nI s)), (1, .ref (T.ad 6 f))]) (by decide +kernel) rfl ⟨Nat.le_of_ble_eq_true rfl, rfl⟩ ?_
  have hp12 := hp.2.1
  have hpk := hp.2.2 (st - 1) (by omega)
  have hnb := hk.nb
  refine x_aload_n 1 dX5_put_0 rfl rfl ?_
  refine x_iload_n 2 dX5_put_1 rfl rfl ?_
  refine x_aload_n 3 dX5_put_2 rfl rfl ?_
  refine x_getz 6 dX5_put_3 rfl fl_X5_3 (hk.l4 (by omega)) (hk.z4_4 (by omega)) ?_
  refine x_getz 9 dX5_put_6 rfl fl_X5_26 (hk.l0 (by omega)) (hk.z0_11 (by omega)) ?_
  refine x_aload_n 10 dX5_put_9 rfl rfl ?_
  refine x_getz 13 dX5_put_10 rfl fl_X5_15 (hk.l4 (by omega)) (hk.z4_0 (by omega)) ?_
  refine x_aload_n 14 dX5_put_13 rfl rfl ?_
  refine x_geti 17 dX5_put_14 rfl fl_X5_22 (hk.l4 (by omega)) ?_
  refine x_vi (w := nI st) hp.1 ?_
  refine x_iconst (v := 1) 18 dX5_put_17 rfl rfl ?_
  refine x_isubn st 1 19 dX5_put_18 rfl rfl rfl (by omega) ?_
  refine x_iald 20 dX5_put_19 rfl ar_33 (hk.l33 (by omega)) (xb (hk.n33 (by omega)) (by omega) (by omega)) ?_
  refine x_vi (w := nI (fr (st - 1))) hpk.1 ?_
  refine x_aload_n 21 dX5_put_20 rfl rfl ?_
  refine x_getz 24 dX5_put_21 rfl fl_X5_19 (hk.l4 (by omega)) (hk.z4_1 (by omega)) ?_
  refine x_aload_n 25 dX5_put_24 rfl rfl ?_
  refine x_geti 28 dX5_put_25 rfl fl_X5_22 (hk.l4 (by omega)) ?_
  refine x_vi (w := nI st) hp.1 ?_
  refine x_iconst (v := 1) 29 dX5_put_28 rfl rfl ?_
  refine x_isubn st 1 30 dX5_put_29 rfl rfl rfl (by omega) ?_
  refine x_iald 31 dX5_put_30 rfl ar_34 (hk.l34 (by omega)) (xb (hk.n34 (by omega)) (by omega) (by omega)) ?_
  refine x_vi (w := nI (lg (st - 1))) hpk.2.1 ?_
  refine x_callV (as := [.int (nI s), .ref (T.ad 27 0), .int (nI (fr (st - 1))), .int (nI (lg (st - 1)))]) (rest := []) (i := d) (n' := n - 1) 34 dX5_put_31 rfl mv_X5_130 rfl rfl (hk.l6 (by omega)) (xnh rfl) (by omega) (xst (Nat.le_of_ble_eq_true rfl)) (c_X7_name hk (by omega) ar_27 (hk.l27 (by omega)) (by decide) (by decide) (by omega) ⟨(by rw [(hk.n27 (by omega))]; omega), by omega⟩ (by omega) ?_)
  change X _ _ _ _ _ _ _ _ _ _
  refine x_aload_n 35 dX5_put_34 rfl rfl ?_
  refine x_iload_n 36 dX5_put_35 rfl rfl ?_
  refine x_aload_n 37 dX5_put_36 rfl rfl ?_
  refine x_geti 40 dX5_put_37 rfl fl_X5_47 (hk.l6 (by omega)) ?_
  refine x_vi (w := nI f) (by unfold iName; rw [xfil_c (by decide)]; exact hnum) ?_
  refine x_aload_n 41 dX5_put_40 rfl rfl ?_
  refine x_getz 44 dX5_put_41 rfl fl_X5_3 (hk.l4 (by omega)) (hk.z4_4 (by omega)) ?_
  refine x_geti 47 dX5_put_44 rfl fl_X5_119 (hk.l0 (by omega)) ?_
  refine x_callV (as := [.int (nI s), .int (nI f), .int ((iName I d s (I 27 0) (fr (st - 1)) (lg (st - 1))) 0 0 21)]) (rest := []) (i := d) (n' := n - 1) 50 dX5_put_47 rfl mv_X5_134 rfl rfl (hk.l6 (by omega)) (xnh rfl) (by omega) (xst (Nat.le_of_ble_eq_true rfl)) (c_X7_put hk (by omega) (by omega) (by omega) ?_)
  change X _ _ _ _ _ _ _ _ _ _
  refine x_vreturn dX5_put_50 rfl ?_
  exact kcv (by unfold pPut iName; rw [xfil_c (c := 43) (c' := 0) (by decide)]) hq
theorem dX5_directory_0 : decode cX5_directory 0 = .ok (.aload_n 1, 1) := by decide +kernel
theorem dX5_directory_1 : decode cX5_directory 1 = .ok (.invokevirtual 155, 3) := by decide +kernel
theorem dX5_directory_4 : decode cX5_directory 4 = .ok (.ifCond .ne 16, 3) := by decide +kernel
theorem dX5_directory_7 : decode cX5_directory 7 = .ok (.aload_n 0, 1) := by decide +kernel
theorem dX5_directory_8 : decode cX5_directory 8 = .ok (.getfield 3, 3) := by decide +kernel
theorem dX5_directory_11 : decode cX5_directory 11 = .ok (.getfield 105, 3) := by decide +kernel
theorem dX5_directory_14 : decode cX5_directory 14 = .ok (.bipush (-4), 2) := by decide +kernel
theorem dX5_directory_16 : decode cX5_directory 16 = .ok (.invokevirtual 109, 3) := by decide +kernel
theorem dX5_directory_19 : decode cX5_directory 19 = .ok (.athrow, 1) := by decide +kernel
theorem dX5_directory_20 : decode cX5_directory 20 = .ok (.return_, 1) := by decide +kernel
set_option maxHeartbeats 4000000 in
set_option maxRecDepth 100000 in
theorem c_X5_directory {G : xG} {n : Nat} {Q : Outcome → xS → Prop} {I : xI} {J : xJ} {R Z : xR} {T : xT} {N B : Nat} (hk : KS Z T N B) {i d : Nat} (hi : i < 2) (hd : d < N) (hn : 2 ≤ n) (hq : iDir I d → Q (.returned none) (I, J, R, Z, T)) (ht : ¬ iDir I d → Q (.threw (T.ad 3 0)) (xu I 3 0 0 (-4), J, R, Z, T)) : xCall G mX5_directory n [.ref (T.ad 4 i), .ref (T.ad 6 d)] (I, J, R, Z, T) Q := by
  refine x_met (L0 := [(1, .ref (T.ad 4 i)), (1, .ref (T.ad 6 d))]) (by decide +kernel) rfl ⟨Nat.le_of_ble_eq_true rfl, rfl⟩ ?_
  refine x_aload_n 1 dX5_directory_0 rfl rfl ?_
  refine x_callV (as := []) (rest := []) (i := d) (n' := n - 1) 4 dX5_directory_1 rfl mv_X5_155 rfl rfl (hk.l6 (by omega)) (xnh rfl) (by omega) (xst (Nat.le_of_ble_eq_true rfl)) (c_X7_isDirectory hk (by omega) (by omega) ?_)
  change X _ _ _ _ _ _ _ _ _ _
  refine x_if_ne 20 7 dX5_directory_4 (by decide) rfl (fun c4 => ?_) (fun c4 => ?_)
  · skip
    have c4 : iDir I d := b2i_n0.mp c4
    refine x_vreturn dX5_directory_20 rfl ?_
    exact hq c4
  · skip
    have c4 : ¬ (iDir I d) := b2i_0.mp c4
    refine x_aload_n 8 dX5_directory_7 rfl rfl ?_
    refine x_getz 11 dX5_directory_8 rfl fl_X5_3 (hk.l4 (by omega)) (hk.z4_4 (by omega)) ?_
    refine x_getz 14 dX5_directory_11 rfl fl_X5_105 (hk.l0 (by omega)) (hk.z0_10 (by omega)) ?_
    refine x_bipush (v := -4) 16 dX5_directory_14 rfl rfl ?_
    refine x_callV (as := [.int (-4)]) (rest := []) (i := 0) (n' := n - 1) 19 dX5_directory_16 rfl mv_X5_109 rfl rfl (hk.l3 (by omega)) (xnh rfl) (by omega) (xst (Nat.le_of_ble_eq_true rfl)) (c_X4_by hk (by omega) ?_)
    change X _ _ _ _ _ _ _ _ _ _
    refine x_athrow dX5_directory_19 (xnh rfl) ?_
    exact ht c4
theorem PS.fx {A B : xI} {i n : Nat} {fr lg : Nat → Nat} (h : PS A i n fr lg) (f : kFx A B) : PS B i n fr lg :=
  ⟨(f 4 i 2 rfl).trans h.1, h.2.1, fun t ht => ⟨(f 33 i t rfl).trans (h.2.2 t ht).1, (f 34 i t rfl).trans (h.2.2 t ht).2.1, (h.2.2 t ht).2.2⟩⟩
theorem tp_fx {A B : xI} {tp : Nat → Int32} (h : A 27 0 = tp) (f : kFx A B) : B 27 0 = tp := by rw [← h]; funext j; exact f 27 0 j rfl
theorem kOf2 {q N : Nat} : kOf 2 q N := ⟨fun h => absurd h (by decide), fun h => absurd h (by decide), fun h => absurd h (by decide), fun h => absurd h (by decide), fun h => absurd h (by decide), fun h => absurd h (by decide)⟩
theorem kOf4 {q N : Nat} (hq : q < N) : kOf 4 q N := ⟨fun h => absurd h (by decide), fun h => absurd h (by decide), fun _ => hq, fun h => absurd h (by decide), fun h => absurd h (by decide), fun h => absurd h (by decide)⟩
theorem hoaN {g : Int32} {d N : Nat} (hd : d < 1000000) (h : kOf g d N) : nI d = nI (iN (nI d)) ∧ kOf g (iN (nI d)) N := by rw [iN_nI (by omega)]; exact ⟨rfl, h⟩
noncomputable def kAccE (N : Nat) (s : kK) (me : Nat) (tp : Nat → Int32) (fr lg : Nat → Nat) (k d : Nat) (w : Int32) : kO := kAccess N s me 2 (nI d) (prt (pByte tp fr lg k) 0 7) (prt (pByte tp fr lg k) 7 7) w
theorem x_vl {G : xG} {M : xM} {n a b : Nat} {Q : Outcome → xS → Prop} {z : xS} {pc : Nat} {L : List (Nat × Value)} {st : List Value} {v w : Int64} (h : v = w) (k : X G M n a b Q z pc L (.long w :: st)) : X G M n a b Q z pc L (.long v :: st) := by rw [h]; exact k
theorem dX5_access_0 : decode cX5_access 0 = .ok (.aload_n 0, 1) := by decide +kernel
theorem dX5_access_1 : decode cX5_access 1 = .ok (.getfield 3, 3) := by decide +kernel
theorem dX5_access_4 : decode cX5_access 4 = .ok (.iconst 2, 1) := by decide +kernel
theorem dX5_access_5 : decode cX5_access 5 = .ok (.aload_n 2, 1) := by decide +kernel
theorem dX5_access_6 : decode cX5_access 6 = .ok (.getfield 47, 3) := by decide +kernel
theorem dX5_access_9 : decode cX5_access 9 = .ok (.aload_n 0, 1) := by decide +kernel
theorem dX5_access_10 : decode cX5_access 10 = .ok (.iload_n 1, 1) := by decide +kernel
theorem dX5_access_11 : decode cX5_access 11 = .ok (.iconst 0, 1) := by decide +kernel
theorem dX5_access_12 : decode cX5_access 12 = .ok (.bipush 7, 2) := by decide +kernel
theorem dX5_access_14 : decode cX5_access 14 = .ok (.invokevirtual 52, 3) := by decide +kernel
theorem dX5_access_17 : decode cX5_access 17 = .ok (.aload_n 0, 1) := by decide +kernel
theorem dX5_access_18 : decode cX5_access 18 = .ok (.iload_n 1, 1) := by decide +kernel
theorem dX5_access_19 : decode cX5_access 19 = .ok (.bipush 7, 2) := by decide +kernel
theorem dX5_access_21 : decode cX5_access 21 = .ok (.bipush 7, 2) := by decide +kernel
theorem dX5_access_23 : decode cX5_access 23 = .ok (.invokevirtual 52, 3) := by decide +kernel
theorem dX5_access_26 : decode cX5_access 26 = .ok (.iload_n 3, 1) := by decide +kernel
theorem dX5_access_27 : decode cX5_access 27 = .ok (.invokevirtual 56, 3) := by decide +kernel
theorem dX5_access_30 : decode cX5_access 30 = .ok (.return_, 1) := by decide +kernel
set_option maxHeartbeats 4000000 in
set_option maxRecDepth 100000 in
theorem c_X5_access {G : xG} {n : Nat} {Q : Outcome → xS → Prop} {x : kX} {I : xI} {R : xR} {v : kV} {th : List xTh} {mm : Nat} (hT : KT x v th) (hK : KI (I, R, th) x.N mm) {i st : Nat} (hi : i < 2) {fr lg : Nat → Nat} (hp : PS I i st fr lg) {tp : Nat → Int32} (htp : I 27 0 = tp) {k d : Nat} (hk_ : k < st) (hd : d < x.N) (hmm : mm < 16384) {me : Nat} (hme : R 0 0 19 = some me) (hme16 : me < 16) {w : Int32} (hn : 8 ≤ n) (hq : kOut Q x (kAccE x.N (I, R, th) me tp fr lg k d w) none) : xCall G mX5_access n [.ref (x.ad 4 i), .int (nI k), .ref (x.ad 6 d), .int w] (kS I R x v) Q := by
  refine x_met (L0 := [(1, .ref (x.ad 4 i)), (1, .int (nI k)), (1, .ref (x.ad 6 d)), (1, .int w)]) (by decide +kernel) rfl ⟨Nat.le_of_ble_eq_true rfl, rfl⟩ ?_
  have hp12 := hp.2.1
  have hnb := hT.ks.nb
  refine x_aload_n 1 dX5_access_0 rfl rfl ?_
  refine x_getz 4 dX5_access_1 rfl fl_X5_3 (hT.ks.l4 (by omega)) (hT.ks.z4_4 (by omega)) ?_
  refine x_iconst (v := 2) 5 dX5_access_4 rfl rfl ?_
  refine x_aload_n 6 dX5_access_5 rfl rfl ?_
  refine x_geti 9 dX5_access_6 rfl fl_X5_47 (hT.ks.l6 (by omega)) ?_
  refine x_vi (w := I 6 d 0) rfl ?_
  refine x_vi (w := nI d) (hK.nm.1 d hd) ?_
  refine x_aload_n 10 dX5_access_9 rfl rfl ?_
  refine x_iload_n 11 dX5_access_10 rfl rfl ?_
  refine x_iconst (v := 0) 12 dX5_access_11 rfl rfl ?_
  refine x_bipush (v := 7) 14 dX5_access_12 rfl rfl ?_
  refine x_callV (as := [.int (nI k), .int (nI 0), .int (nI 7)]) (rest := [.int (nI d), .int 2, .ref (x.ad 0 0)]) (i := i) (n' := n - 1) 17 dX5_access_14 rfl mv_X5_52 rfl rfl (hT.ks.l4 (by omega)) (xnh rfl) (by omega) (xst (Nat.le_of_ble_eq_true rfl)) (c_X5_part (I := kI I v.t) (fr := fr) (lg := lg) (k := k) (s := 0) (m := 7) hT.ks (by omega) hp (by omega) (by omega) (by omega) ?_)
  change X _ _ _ _ _ _ _ _ _ _
  refine x_vl (w := prt (pByte tp fr lg k) 0 7) (by rw [← htp]; rfl) ?_
  refine x_aload_n 18 dX5_access_17 rfl rfl ?_
  refine x_iload_n 19 dX5_access_18 rfl rfl ?_
  refine x_bipush (v := 7) 21 dX5_access_19 rfl rfl ?_
  refine x_bipush (v := 7) 23 dX5_access_21 rfl rfl ?_
  refine x_callV (as := [.int (nI k), .int (nI 7), .int (nI 7)]) (rest := [.long (prt (pByte tp fr lg k) 0 7), .int (nI d), .int 2, .ref (x.ad 0 0)]) (i := i) (n' := n - 1) 26 dX5_access_23 rfl mv_X5_52 rfl rfl (hT.ks.l4 (by omega)) (xnh rfl) (by omega) (xst (Nat.le_of_ble_eq_true rfl)) (c_X5_part (I := kI I v.t) (fr := fr) (lg := lg) (k := k) (s := 7) (m := 7) hT.ks (by omega) hp (by omega) (by omega) (by omega) ?_)
  change X _ _ _ _ _ _ _ _ _ _
  refine x_vl (w := prt (pByte tp fr lg k) 7 7) (by rw [← htp]; rfl) ?_
  refine x_iload_n 27 dX5_access_26 rfl rfl ?_
  refine x_callV (as := [.int 2, .int (nI d), .long (prt (pByte tp fr lg k) 0 7), .long (prt (pByte tp fr lg k) 7 7), .int w]) (rest := []) (i := 0) (n' := n - 1) 30 dX5_access_27 rfl mv_X5_56 rfl rfl (hT.ks.l0 (by omega)) (xnh rfl) (by omega) (xst (Nat.le_of_ble_eq_true rfl)) (c_X1_access hT hK (hoaN (by omega) kOf2) hmm hme hme16 (by omega) ⟨?_, ?_⟩)
  · skip
    intro hz v1 hT1
    change X _ _ _ _ _ _ _ _ _ _
    refine x_vreturn dX5_access_30 rfl ?_
    exact hq.1 hz _ hT1
  · skip
    intro hz v1 hT1
    exact hq.2 hz _ hT1
