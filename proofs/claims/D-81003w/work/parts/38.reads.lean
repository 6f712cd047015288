set_option maxRecDepth 100000
theorem kOutN {Q : Outcome → xS → Prop} {x : kX} {r t : kO} {ret : Option Value} (h : r = t) (k : kOut Q x r ret) : kOut Q x t ret := by rw [← h]; exact k
def kReads (N : Nat) (s : kK) (me : Nat) (g a : Int32) : kO → Prop := fun r => r = kAccess N s me g a 0 0 0
theorem dX1_reads_0 : decode cX1_reads 0 = .ok (.aload_n 0, 1) := by decide +kernel
theorem dX1_reads_1 : decode cX1_reads 1 = .ok (.iload_n 1, 1) := by decide +kernel
theorem dX1_reads_2 : decode cX1_reads 2 = .ok (.iload_n 2, 1) := by decide +kernel
theorem dX1_reads_3 : decode cX1_reads 3 = .ok (.lconst 0, 1) := by decide +kernel
theorem dX1_reads_4 : decode cX1_reads 4 = .ok (.lconst 0, 1) := by decide +kernel
theorem dX1_reads_5 : decode cX1_reads 5 = .ok (.iconst 0, 1) := by decide +kernel
theorem dX1_reads_6 : decode cX1_reads 6 = .ok (.invokevirtual 387, 3) := by decide +kernel
theorem dX1_reads_9 : decode cX1_reads 9 = .ok (.return_, 1) := by decide +kernel
set_option maxHeartbeats 4000000 in
set_option maxRecDepth 100000 in
theorem c_X1_reads {G : xG} {n : Nat} {Q : Outcome → xS → Prop} {x : kX} {I : xI} {R : xR} {v : kV} {th : List xTh} {mm : Nat} (hT : KT x v th) (hK : KI (I, R, th) x.N mm) {g oa : Int32} (hoa : oa = nI (iN oa) ∧ kOf g (iN oa) x.N) (hmm : mm < 16384) {me : Nat} (hme : R 0 0 19 = some me) (hme16 : me < 16) (hn : 8 ≤ n) (hq : kOut Q x (kAccess x.N (I, R, th) me g oa 0 0 0) none) : xCall G mX1_reads n [.ref (x.ad 0 0), .int g, .int oa] (kS I R x v) Q := by
  refine x_met (L0 := [(1, .ref (x.ad 0 0)), (1, .int g), (1, .int oa)]) (by decide +kernel) rfl ⟨Nat.le_of_ble_eq_true rfl, rfl⟩ ?_
  refine x_aload_n 1 dX1_reads_0 rfl rfl ?_
  refine x_iload_n 2 dX1_reads_1 rfl rfl ?_
  refine x_iload_n 3 dX1_reads_2 rfl rfl ?_
  refine x_lconst (v := 0) 4 dX1_reads_3 rfl rfl ?_
  refine x_lconst (v := 0) 5 dX1_reads_4 rfl rfl ?_
  refine x_iconst (v := 0) 6 dX1_reads_5 rfl rfl ?_
  refine x_callV (as := [.int g, .int oa, .long 0, .long 0, .int 0]) (rest := []) (i := 0) (n' := n - 1) 9 dX1_reads_6 rfl mv_X1_387 rfl rfl (hT.ks.l0 (by omega)) (xnh rfl) (by omega) (xst (Nat.le_of_ble_eq_true rfl)) (c_X1_access hT hK hoa hmm hme hme16 (by omega) ⟨?_, ?_⟩)
  · skip
    intro hz v1 hT1
    change X _ _ _ _ _ _ _ _ _ _
    refine x_vreturn dX1_reads_9 rfl ?_
    exact hq.1 hz _ hT1
  · skip
    intro hz v1 hT1
    exact hq.2 hz _ hT1
theorem dX1_writes_0 : decode cX1_writes 0 = .ok (.aload_n 0, 1) := by decide +kernel
theorem dX1_writes_1 : decode cX1_writes 1 = .ok (.iload_n 1, 1) := by decide +kernel
theorem dX1_writes_2 : decode cX1_writes 2 = .ok (.iload_n 2, 1) := by decide +kernel
theorem dX1_writes_3 : decode cX1_writes 3 = .ok (.lconst 0, 1) := by decide +kernel
theorem dX1_writes_4 : decode cX1_writes 4 = .ok (.lconst 0, 1) := by decide +kernel
theorem dX1_writes_5 : decode cX1_writes 5 = .ok (.iconst 1, 1) := by decide +kernel
theorem dX1_writes_6 : decode cX1_writes 6 = .ok (.invokevirtual 387, 3) := by decide +kernel
theorem dX1_writes_9 : decode cX1_writes 9 = .ok (.return_, 1) := by decide +kernel
set_option maxHeartbeats 4000000 in
set_option maxRecDepth 100000 in
theorem c_X1_writes {G : xG} {n : Nat} {Q : Outcome → xS → Prop} {x : kX} {I : xI} {R : xR} {v : kV} {th : List xTh} {mm : Nat} (hT : KT x v th) (hK : KI (I, R, th) x.N mm) {g oa : Int32} (hoa : oa = nI (iN oa) ∧ kOf g (iN oa) x.N) (hmm : mm < 16384) {me : Nat} (hme : R 0 0 19 = some me) (hme16 : me < 16) (hn : 8 ≤ n) (hq : kOut Q x (kAccess x.N (I, R, th) me g oa 0 0 1) none) : xCall G mX1_writes n [.ref (x.ad 0 0), .int g, .int oa] (kS I R x v) Q := by
  refine x_met (L0 := [(1, .ref (x.ad 0 0)), (1, .int g), (1, .int oa)]) (by decide +kernel) rfl ⟨Nat.le_of_ble_eq_true rfl, rfl⟩ ?_
  refine x_aload_n 1 dX1_writes_0 rfl rfl ?_
  refine x_iload_n 2 dX1_writes_1 rfl rfl ?_
  refine x_iload_n 3 dX1_writes_2 rfl rfl ?_
  refine x_lconst (v := 0) 4 dX1_writes_3 rfl rfl ?_
  refine x_lconst (v := 0) 5 dX1_writes_4 rfl rfl ?_
  refine x_iconst (v := 1) 6 dX1_writes_5 rfl rfl ?_
  refine x_callV (as := [.int g, .int oa, .long 0, .long 0, .int 1]) (rest := []) (i := 0) (n' := n - 1) 9 dX1_writes_6 rfl mv_X1_387 rfl rfl (hT.ks.l0 (by omega)) (xnh rfl) (by omega) (xst (Nat.le_of_ble_eq_true rfl)) (c_X1_access hT hK hoa hmm hme hme16 (by omega) ⟨?_, ?_⟩)
  · skip
    intro hz v1 hT1
    change X _ _ _ _ _ _ _ _ _ _
    refine x_vreturn dX1_writes_9 rfl ?_
    exact hq.1 hz _ hT1
  · skip
    intro hz v1 hT1
    exact hq.2 hz _ hT1
noncomputable def kPush (N : Nat) (s : kK) (g a : Int32) : kK := kAbAll N (thBut (thMetL s.2.2 g a 0 0 1) (s.1 0 0 21)) s
theorem dX1_pushes_0 : decode cX1_pushes 0 = .ok (.aload_n 0, 1) := by decide +kernel
theorem dX1_pushes_1 : decode cX1_pushes 1 = .ok (.aload_n 0, 1) := by decide +kernel
theorem dX1_pushes_2 : decode cX1_pushes 2 = .ok (.getfield 46, 3) := by decide +kernel
theorem dX1_pushes_5 : decode cX1_pushes 5 = .ok (.iload_n 1, 1) := by decide +kernel
theorem dX1_pushes_6 : decode cX1_pushes 6 = .ok (.iload_n 2, 1) := by decide +kernel
theorem dX1_pushes_7 : decode cX1_pushes 7 = .ok (.lconst 0, 1) := by decide +kernel
theorem dX1_pushes_8 : decode cX1_pushes 8 = .ok (.lconst 0, 1) := by decide +kernel
theorem dX1_pushes_9 : decode cX1_pushes 9 = .ok (.iconst 1, 1) := by decide +kernel
theorem dX1_pushes_10 : decode cX1_pushes 10 = .ok (.aload_n 0, 1) := by decide +kernel
theorem dX1_pushes_11 : decode cX1_pushes 11 = .ok (.getfield 291, 3) := by decide +kernel
theorem dX1_pushes_14 : decode cX1_pushes 14 = .ok (.invokevirtual 360, 3) := by decide +kernel
theorem dX1_pushes_17 : decode cX1_pushes 17 = .ok (.invokevirtual 375, 3) := by decide +kernel
theorem dX1_pushes_20 : decode cX1_pushes 20 = .ok (.return_, 1) := by decide +kernel
set_option maxHeartbeats 4000000 in
set_option maxRecDepth 100000 in
theorem c_X1_pushes {G : xG} {n : Nat} {Q : Outcome → xS → Prop} {x : kX} {I : xI} {R : xR} {v : kV} {th : List xTh} {mm : Nat} (hT : KT x v th) (hK : KI (I, R, th) x.N mm) {g oa : Int32} (hmm : mm < 16384) (hn : 7 ≤ n) (hq : ∀ v' : kV, KT x v' (kPush x.N (I, R, th) g oa).2.2 → Q (.returned none) (kS (kPush x.N (I, R, th) g oa).1 (kPush x.N (I, R, th) g oa).2.1 x v')) : xCall G mX1_pushes n [.ref (x.ad 0 0), .int g, .int oa] (kS I R x v) Q := by
  refine x_met (L0 := [(1, .ref (x.ad 0 0)), (1, .int g), (1, .int oa)]) (by decide +kernel) rfl ⟨Nat.le_of_ble_eq_true rfl, rfl⟩ ?_
  have hln : th.length ≤ mm := hK.ln
  refine x_aload_n 1 dX1_pushes_0 rfl rfl ?_
  refine x_aload_n 2 dX1_pushes_1 rfl rfl ?_
  refine x_getz 5 dX1_pushes_2 rfl fl_X1_46 (hT.ks.l0 (by omega)) (hT.ks.z0_9 (by omega)) ?_
  refine x_iload_n 6 dX1_pushes_5 rfl rfl ?_
  refine x_iload_n 7 dX1_pushes_6 rfl rfl ?_
  refine x_lconst (v := 0) 8 dX1_pushes_7 rfl rfl ?_
  refine x_lconst (v := 0) 9 dX1_pushes_8 rfl rfl ?_
  refine x_iconst (v := 1) 10 dX1_pushes_9 rfl rfl ?_
  refine x_aload_n 11 dX1_pushes_10 rfl rfl ?_
  refine x_geti 14 dX1_pushes_11 rfl fl_X1_291 (hT.ks.l0 (by omega)) ?_
  refine x_vi (w := I 0 0 21) rfl ?_
  refine x_callV (as := [.int g, .int oa, .long 0, .long 0, .int 1, .int (I 0 0 21)]) (rest := [.ref (x.ad 0 0)]) (i := 0) (n' := n - 1) 17 dX1_pushes_14 rfl mv_X1_360 rfl rfl (hT.ks.l2 (by omega)) (xnh rfl) (by omega) (xst (Nat.le_of_ble_eq_true rfl)) (k_X3_met (g := g) (oa := oa) (p := 0) (q := 0) (w := 1) hT (by omega) (by omega) ?_)
  change X _ _ _ _ _ _ _ _ _ _
  refine x_vi (w := thBut (thMetL th g oa 0 0 1) (I 0 0 21)) rfl ?_
  refine x_callV (as := [.int (thBut (thMetL th g oa 0 0 1) (I 0 0 21))]) (rest := []) (i := 0) (n' := n - 1) 20 dX1_pushes_17 rfl mv_X1_375 rfl rfl (hT.ks.l0 (by omega)) (xnh rfl) (by omega) (xst (Nat.le_of_ble_eq_true rfl)) (c_X1_abortAll hT hK (by omega) ?_)
  · skip
    intro w1 hU1
    change X _ _ _ _ _ _ _ _ _ _
    refine x_vreturn dX1_pushes_20 rfl ?_
    exact hq _ hU1
