set_option maxRecDepth 100000
theorem kR_pUndR {C u : xR} {p : Nat} : pUndR (kR C u) p = kR (pUndR C p) u := by
  unfold pUndR; rw [kR_xur (c := 46) rfl, kR_xu (c := 9) rfl, kR_pEndR]; rfl
theorem kR_pBegR {C u : xR} {p : Nat} : pBegR (kR C u) p = kR (pBegR C p) u := by
  unfold pBegR; rw [kR_xur (c := 47) rfl, kR_xu (c := 9) rfl]; rfl
def itK (f : kK → Nat → kK) (s : kK) : Nat → kK
  | 0 => s
  | k + 1 => f (itK f s k) k
def kBit (m : Int32) (p : Nat) : Int32 := (m >>> (nI p &&& 31)) &&& 1
noncomputable def kAb1 (N : Nat) (m : Int32) (s : kK) (p : Nat) : kK :=
  if kBit m p = 0 then s else (xu (kAbort N s p).1 9 p 10 1, (kAbort N s p).2.1, (kAbort N s p).2.2)
/-- groups that are met are aborted -/
noncomputable def kAbAll (N : Nat) (m : Int32) (s : kK) : kK := itK (kAb1 N m) s 16
theorem KI.u {s : kK} {N m c i k : Nat} {v : Int32} (h : KI s N m) (hc : wfB N c k = none) (hf : xfinB c k = false) : KI (xu s.1 c i k v, s.2.1, s.2.2) N m :=
  ⟨h.wf.u hc, h.rf, h.ok, h.nm.fx (kFx.rfl.u hf), h.ln⟩
theorem KI.ab1 {s : kK} {N m p : Nat} {w : Int32} (h : KI s N m) : KI (kAb1 N w s p) N m := by
  unfold kAb1; split
  · exact h
  · exact h.abort.u rfl rfl
theorem KI.itK {f : kK → Nat → kK} {N m : Nat} (hf : ∀ s k, KI s N m → KI (f s k) N m) {s : kK} (h : KI s N m) : ∀ n, KI (itK f s n) N m
  | 0 => h
  | n + 1 => hf _ _ (KI.itK hf h n)
theorem sx_ab1 {N p : Nat} {w : Int32} {s : kK} : kSx s (kAb1 N w s p) := by
  unfold kAb1; split
  · exact kSx.rfl
  · exact ⟨sx_abort.1.u rfl, sx_abort.2⟩
theorem sx_itK {f : kK → Nat → kK} (hf : ∀ s k, kSx s (f s k)) {s : kK} : ∀ n, kSx s (itK f s n)
  | 0 => kSx.rfl
  | n + 1 => (sx_itK hf n).trans (hf _ _)
theorem sx_abAll {N : Nat} {w : Int32} {s : kK} : kSx s (kAbAll N w s) := by unfold kAbAll; exact sx_itK (f := kAb1 N w) (fun _ _ => sx_ab1) 16
theorem KI.abAll {s : kK} {N m : Nat} {w : Int32} (h : KI s N m) : KI (kAbAll N w s) N m := by unfold kAbAll; exact KI.itK (f := kAb1 N w) (fun _ _ g => g.ab1) h 16
theorem dX1_abort_0 : decode cX1_abort 0 = .ok (.aload_n 0, 1) := by decide +kernel
theorem dX1_abort_1 : decode cX1_abort 1 = .ok (.aload_n 1, 1) := by decide +kernel
theorem dX1_abort_2 : decode cX1_abort 2 = .ok (.getfield 346, 3) := by decide +kernel
theorem dX1_abort_5 : decode cX1_abort 5 = .ok (.invokevirtual 349, 3) := by decide +kernel
theorem dX1_abort_8 : decode cX1_abort 8 = .ok (.aload_n 1, 1) := by decide +kernel
theorem dX1_abort_9 : decode cX1_abort 9 = .ok (.invokevirtual 351, 3) := by decide +kernel
theorem dX1_abort_12 : decode cX1_abort 12 = .ok (.aload_n 0, 1) := by decide +kernel
theorem dX1_abort_13 : decode cX1_abort 13 = .ok (.dup, 1) := by decide +kernel
theorem dX1_abort_14 : decode cX1_abort 14 = .ok (.getfield 173, 3) := by decide +kernel
theorem dX1_abort_17 : decode cX1_abort 17 = .ok (.iconst 1, 1) := by decide +kernel
theorem dX1_abort_18 : decode cX1_abort 18 = .ok (.iadd, 1) := by decide +kernel
theorem dX1_abort_19 : decode cX1_abort 19 = .ok (.putfield 173, 3) := by decide +kernel
theorem dX1_abort_22 : decode cX1_abort 22 = .ok (.aload_n 0, 1) := by decide +kernel
theorem dX1_abort_23 : decode cX1_abort 23 = .ok (.invokevirtual 352, 3) := by decide +kernel
theorem dX1_abort_26 : decode cX1_abort 26 = .ok (.return_, 1) := by decide +kernel
theorem kab {Q : Outcome → xS → Prop} {x : kX} {I I1 I2 : xI} {R R1 : xR} {th : List xTh} {p : Nat} {v9 : kV} (h1 : I1 = pEndI (kUndo x.N (nI p) th (I, R)).1 p) (hR : R1 = pUndR (kUndo x.N (nI p) th (I, R)).2 p) (h2 : I2 = xu I1 0 0 17 (I1 0 0 17 + 1))
    (hq : ∀ v' : kV, KT x v' (kAbort x.N (I, R, th) p).2.2 → Q (.returned none) (kS (kAbort x.N (I, R, th) p).1 (kAbort x.N (I, R, th) p).2.1 x v')) (hT : KT x v9 (kSwT (kSwA x.N I2 R1) R1 (thEnd th (nI p)))) : Q (.returned none) (kS (kSwA x.N I2 R1) R1 x v9) := by
  have e : kAbort x.N (I, R, th) p = (kSwA x.N I2 R1, R1, kSwT (kSwA x.N I2 R1) R1 (thEnd th (nI p))) := by rw [h2, hR, h1]; unfold kAbort; rfl
  rw [e] at hq
  exact hq v9 hT
set_option maxHeartbeats 4000000 in
set_option maxRecDepth 100000 in
theorem c_X1_abort {G : xG} {n : Nat} {Q : Outcome → xS → Prop} {x : kX} {I : xI} {R : xR} {v : kV} {th : List xTh} {mm : Nat} (hT : KT x v th) (hK : KI (I, R, th) x.N mm) {p : Nat} (hp : p < 16) (hn : 5 ≤ n) (hq : ∀ v' : kV, KT x v' (kAbort x.N (I, R, th) p).2.2 → Q (.returned none) (kS (kAbort x.N (I, R, th) p).1 (kAbort x.N (I, R, th) p).2.1 x v')) : xCall G mX1_abort n [.ref (x.ad 0 0), .ref (x.ad 9 p)] (kS I R x v) Q := by
  refine x_met (L0 := [(1, .ref (x.ad 0 0)), (1, .ref (x.ad 9 p))]) (by decide +kernel) rfl ⟨Nat.le_of_ble_eq_true rfl, rfl⟩ ?_
  refine x_aload_n 1 dX1_abort_0 rfl rfl ?_
  refine x_aload_n 2 dX1_abort_1 rfl rfl ?_
  refine x_geti 5 dX1_abort_2 rfl fl_X1_346 (hT.ks.l9 (by omega)) ?_
  refine x_vi (w := I 9 p 0) rfl ?_
  refine x_vi (w := nI p) (hK.nm.2 p hp) ?_
  refine x_callV (as := [.int (nI p)]) (rest := []) (i := 0) (n' := n - 1) 8 dX1_abort_5 rfl mv_X1_349 rfl rfl (hT.ks.l0 (by omega)) (xnh rfl) (by omega) (xst (Nat.le_of_ble_eq_true rfl)) (c_X1_undo hT hK.ok hK.wf (by omega) ?_)
  · skip
    intro v1 hT1
    change X _ _ _ _ _ _ _ _ _ _
    refine x_aload_n 9 dX1_abort_8 rfl rfl ?_
    have hr1 : kRef (kUndo x.N (nI p) th (I, R)).2 x.N := kRef.undo (s := (I, R)) hK.rf
    refine x_callV (as := []) (rest := []) (i := p) (n' := n - 1) 12 dX1_abort_9 rfl mv_X1_351 rfl rfl (hT1.ks.l9 (by omega)) (xnh rfl) (by omega) (xst (Nat.le_of_ble_eq_true rfl)) (c_X10_undo hT1.ks (by omega) (fun c k j hc _ e => (hr1.k (u := v1.u)).1 c _ k j hc e) (fun k j hk_ e => (hr1.k (u := v1.u)).2.1 _ k j hk_ e) (by omega) ?_)
    change X _ _ _ _ _ _ _ _ _ _
    refine k_nmA (v := v1) (A1 := (pEndI (kUndo x.N (nI p) th (I, R)).1 p)) kI_pEndI fun I1 hI1 => ?_
    refine k_nmC (v := v1) (C1 := (pUndR (kUndo x.N (nI p) th (I, R)).2 p)) kR_pUndR fun R1 hR1 => ?_
    have hr2 : kRef R1 x.N := by rw [hR1]; exact hr1.pUnd
    refine x_aload_n 13 dX1_abort_12 rfl rfl ?_
    refine x_dup 14 dX1_abort_13 rfl rfl ?_
    refine x_geti 17 dX1_abort_14 rfl fl_X1_173 (hT1.ks.l0 (by omega)) ?_
    refine x_vi (w := I1 0 0 17) rfl ?_
    refine x_iconst (v := 1) 18 dX1_abort_17 rfl rfl ?_
    refine x_iadd 19 dX1_abort_18 rfl ?_
    refine x_puti 22 dX1_abort_19 rfl fl_X1_173 rfl rfl (hT1.ks.l0 (by omega)) ?_
    refine k_nmA (v := v1) (kI_xu (c := 0) rfl) fun I2 hI2 => ?_
    refine x_aload_n 23 dX1_abort_22 rfl rfl ?_
    refine x_callV (as := []) (rest := []) (i := 0) (n' := n - 1) 26 dX1_abort_23 rfl mv_X1_352 rfl rfl (hT1.ks.l0 (by omega)) (xnh rfl) (by omega) (xst (Nat.le_of_ble_eq_true rfl)) (c_X1_sweep hT1 hr2 (by omega) ?_)
    · skip
      intro v9 hT9
      change X _ _ _ _ _ _ _ _ _ _
      refine x_vreturn dX1_abort_26 rfl ?_
      exact kab hI1 hR1 hI2 hq hT9
theorem dX1_abortAll_0 : decode cX1_abortAll 0 = .ok (.aload_n 0, 1) := by decide +kernel
theorem dX1_abortAll_1 : decode cX1_abortAll 1 = .ok (.getfield 39, 3) := by decide +kernel
theorem dX1_abortAll_4 : decode cX1_abortAll 4 = .ok (.astore_n 2, 1) := by decide +kernel
theorem dX1_abortAll_5 : decode cX1_abortAll 5 = .ok (.aload_n 2, 1) := by decide +kernel
theorem dX1_abortAll_6 : decode cX1_abortAll 6 = .ok (.arraylength, 1) := by decide +kernel
theorem dX1_abortAll_7 : decode cX1_abortAll 7 = .ok (.istore_n 3, 1) := by decide +kernel
theorem dX1_abortAll_8 : decode cX1_abortAll 8 = .ok (.iconst 0, 1) := by decide +kernel
theorem dX1_abortAll_9 : decode cX1_abortAll 9 = .ok (.istore 4, 2) := by decide +kernel
theorem dX1_abortAll_11 : decode cX1_abortAll 11 = .ok (.iload 4, 2) := by decide +kernel
theorem dX1_abortAll_13 : decode cX1_abortAll 13 = .ok (.iload_n 3, 1) := by decide +kernel
theorem dX1_abortAll_14 : decode cX1_abortAll 14 = .ok (.if_icmp .ge 42, 3) := by decide +kernel
theorem dX1_abortAll_17 : decode cX1_abortAll 17 = .ok (.aload_n 2, 1) := by decide +kernel
theorem dX1_abortAll_18 : decode cX1_abortAll 18 = .ok (.iload 4, 2) := by decide +kernel
theorem dX1_abortAll_20 : decode cX1_abortAll 20 = .ok (.aaload, 1) := by decide +kernel
theorem dX1_abortAll_21 : decode cX1_abortAll 21 = .ok (.astore 5, 2) := by decide +kernel
theorem dX1_abortAll_23 : decode cX1_abortAll 23 = .ok (.iload_n 1, 1) := by decide +kernel
theorem dX1_abortAll_24 : decode cX1_abortAll 24 = .ok (.aload 5, 2) := by decide +kernel
theorem dX1_abortAll_26 : decode cX1_abortAll 26 = .ok (.getfield 346, 3) := by decide +kernel
theorem dX1_abortAll_29 : decode cX1_abortAll 29 = .ok (.ishr, 1) := by decide +kernel
theorem dX1_abortAll_30 : decode cX1_abortAll 30 = .ok (.iconst 1, 1) := by decide +kernel
theorem dX1_abortAll_31 : decode cX1_abortAll 31 = .ok (.iand, 1) := by decide +kernel
theorem dX1_abortAll_32 : decode cX1_abortAll 32 = .ok (.ifCond .ne 6, 3) := by decide +kernel
theorem dX1_abortAll_35 : decode cX1_abortAll 35 = .ok (.goto 15, 3) := by decide +kernel
theorem dX1_abortAll_38 : decode cX1_abortAll 38 = .ok (.aload_n 0, 1) := by decide +kernel
theorem dX1_abortAll_39 : decode cX1_abortAll 39 = .ok (.aload 5, 2) := by decide +kernel
theorem dX1_abortAll_41 : decode cX1_abortAll 41 = .ok (.invokevirtual 353, 3) := by decide +kernel
theorem dX1_abortAll_44 : decode cX1_abortAll 44 = .ok (.aload 5, 2) := by decide +kernel
theorem dX1_abortAll_46 : decode cX1_abortAll 46 = .ok (.iconst 1, 1) := by decide +kernel
theorem dX1_abortAll_47 : decode cX1_abortAll 47 = .ok (.putfield 357, 3) := by decide +kernel
theorem dX1_abortAll_50 : decode cX1_abortAll 50 = .ok (.iinc 4 1, 3) := by decide +kernel
theorem dX1_abortAll_53 : decode cX1_abortAll 53 = .ok (.goto (-42), 3) := by decide +kernel
theorem dX1_abortAll_56 : decode cX1_abortAll 56 = .ok (.return_, 1) := by decide +kernel
set_option maxHeartbeats 4000000 in
set_option maxRecDepth 100000 in
theorem l_X1_abortAll {G : xG} {n a b : Nat} {Q : Outcome → xS → Prop} {x : kX} {s : kK} {mm : Nat} {w : Int32} (hq : ∀ v' : kV, KT x v' (kAbAll x.N w s).2.2 → Q (.returned none) (kS (kAbAll x.N w s).1 (kAbAll x.N w s).2.1 x v')) (k : Nat) (I : xI) (R : xR) (th : List xTh) (v : kV) (hn : 6 ≤ n) :
    (k ≤ 16) → (KT x v th) → (KI (I, R, th) x.N mm) → ((I, R, th) = itK (kAb1 x.N w) s k) → X G mX1_abortAll n a b Q (kS I R x v) 11 [(1, .ref (x.ad 0 0)), (1, .int w), (1, .ref (x.ad 26 0)), (1, .int (nI 16)), (1, .int (nI k)), xo] [] := by
  induction hm : 16 - k using Nat.strongRecOn generalizing k I R th v with
  | _ m_ ih =>
    intro h8 hT hK hI
    refine x_iload 13 dX1_abortAll_11 rfl rfl ?_
    refine x_iload_n 14 dX1_abortAll_13 rfl rfl ?_
    refine x_icmp_ge 56 17 dX1_abortAll_14 (by decide) rfl (fun c14 => ?_) (fun c14 => ?_)
    · skip
      have c14 : 16 ≤ k := (nI_leI (a := 16) (b := k) (by omega) (by omega)).mp c14
      refine x_vreturn dX1_abortAll_56 rfl ?_
      have e : k = 16 := by omega
      rw [e] at hI
      have hq1 := hq v
      unfold kAbAll at hq1
      rw [← hI] at hq1
      exact hq1 hT
    · skip
      have c14 : ¬ (16 ≤ k) := fun h => c14 ((nI_leI (a := 16) (b := k) (by omega) (by omega)).mpr h)
      refine x_aload_n 18 dX1_abortAll_17 rfl rfl ?_
      refine x_iload 20 dX1_abortAll_18 rfl rfl ?_
      refine x_aldz 21 dX1_abortAll_20 rfl ar_26 rfl (hT.ks.l26 (by omega)) (xb (hT.ks.n26 (by omega)) (by omega) (by omega)) (hT.ks.z26 (by omega)) ?_
      refine x_astore 23 [(1, .ref (x.ad 0 0)), (1, .int w), (1, .ref (x.ad 26 0)), (1, .int (nI 16)), (1, .int (nI k)), (1, .ref (x.ad 9 k))] dX1_abortAll_21 rfl (by decide) rfl ?_
      refine x_iload_n 24 dX1_abortAll_23 rfl rfl ?_
      refine x_aload 26 dX1_abortAll_24 rfl rfl ?_
      refine x_geti 29 dX1_abortAll_26 rfl fl_X1_346 (hT.ks.l9 (by omega)) ?_
      refine x_vi (w := I 9 k 0) rfl ?_
      refine x_vi (w := nI k) (hK.nm.2 k (by omega)) ?_
      refine x_ishr 30 dX1_abortAll_29 rfl ?_
      refine x_iconst (v := 1) 31 dX1_abortAll_30 rfl rfl ?_
      refine x_iand 32 dX1_abortAll_31 rfl ?_
      refine x_if_ne 38 35 dX1_abortAll_32 (by decide) rfl (fun c32 => ?_) (fun c32 => ?_)
      · skip
        refine x_aload_n 39 dX1_abortAll_38 rfl rfl ?_
        refine x_aload 41 dX1_abortAll_39 rfl rfl ?_
        refine x_callV (as := [.ref (x.ad 9 k)]) (rest := []) (i := 0) (n' := n - 1) 44 dX1_abortAll_41 rfl mv_X1_353 rfl rfl (hT.ks.l0 (by omega)) (xnh rfl) (by omega) (xst (Nat.le_of_ble_eq_true rfl)) (c_X1_abort hT hK (by omega) (by omega) ?_)
        · skip
          intro w1 hU1
          change X _ _ _ _ _ _ _ _ _ _
          refine x_aload 46 dX1_abortAll_44 rfl rfl ?_
          refine x_iconst (v := 1) 47 dX1_abortAll_46 rfl rfl ?_
          refine x_puti 50 dX1_abortAll_47 rfl fl_X1_357 rfl rfl (hU1.ks.l9 (by omega)) ?_
          refine k_nmA (v := w1) (kI_xu (c := 9) rfl) fun I1 hI1 => ?_
          refine x_iinc 53 [(1, .ref (x.ad 0 0)), (1, .int w), (1, .ref (x.ad 26 0)), (1, .int (nI 16)), (1, .int (nI (k + 1))), (1, .ref (x.ad 9 k))] dX1_abortAll_50 rfl (by decide) rfl (xi_1 k) rfl ?_
          refine x_goto 11 dX1_abortAll_53 (by decide) ?_
          refine x_fgt [(1, .ref (x.ad 0 0)), (1, .int w), (1, .ref (x.ad 26 0)), (1, .int (nI 16)), (1, .int (nI (k + 1))), xo] ⟨Or.inr rfl, Or.inr rfl, Or.inr rfl, Or.inr rfl, Or.inr rfl, Or.inl rfl, trivial⟩ ?_
          exact ih _ (by rw [← hm]; omega) (k + 1) I1 ((kAbort x.N (I, R, th) k).2.1) ((kAbort x.N (I, R, th) k).2.2) w1 rfl (by omega) (hU1) (by rw [hI1]; exact hK.abort.u rfl rfl) (by show _ = kAb1 x.N w (itK (kAb1 x.N w) s k) k; rw [← hI, hI1]; exact (if_neg c32).symm)
      · skip
        refine x_goto 50 dX1_abortAll_35 (by decide) ?_
        refine x_iinc 53 [(1, .ref (x.ad 0 0)), (1, .int w), (1, .ref (x.ad 26 0)), (1, .int (nI 16)), (1, .int (nI (k + 1))), (1, .ref (x.ad 9 k))] dX1_abortAll_50 rfl (by decide) rfl (xi_1 k) rfl ?_
        refine x_goto 11 dX1_abortAll_53 (by decide) ?_
        refine x_fgt [(1, .ref (x.ad 0 0)), (1, .int w), (1, .ref (x.ad 26 0)), (1, .int (nI 16)), (1, .int (nI (k + 1))), xo] ⟨Or.inr rfl, Or.inr rfl, Or.inr rfl, Or.inr rfl, Or.inr rfl, Or.inl rfl, trivial⟩ ?_
        exact ih _ (by rw [← hm]; omega) (k + 1) I R th v rfl (by omega) (hT) (hK) (by show _ = kAb1 x.N w (itK (kAb1 x.N w) s k) k; rw [← hI]; exact (if_pos c32).symm)
set_option maxHeartbeats 4000000 in
set_option maxRecDepth 100000 in
theorem c_X1_abortAll {G : xG} {n : Nat} {Q : Outcome → xS → Prop} {x : kX} {I : xI} {R : xR} {v : kV} {th : List xTh} {mm : Nat} (hT : KT x v th) (hK : KI (I, R, th) x.N mm) {w : Int32} (hn : 6 ≤ n) (hq : ∀ v' : kV, KT x v' (kAbAll x.N w (I, R, th)).2.2 → Q (.returned none) (kS (kAbAll x.N w (I, R, th)).1 (kAbAll x.N w (I, R, th)).2.1 x v')) : xCall G mX1_abortAll n [.ref (x.ad 0 0), .int w] (kS I R x v) Q := by
  refine x_met (L0 := [(1, .ref (x.ad 0 0)), (1, .int w), xo, xo, xo, xo]) (by decide +kernel) rfl ⟨Nat.le_of_ble_eq_true rfl, rfl⟩ ?_
  refine x_aload_n 1 dX1_abortAll_0 rfl rfl ?_
  refine x_getz 4 dX1_abortAll_1 rfl fl_X1_39 (hT.ks.l0 (by omega)) (hT.ks.z0_8 (by omega)) ?_
  refine x_astore_n 5 [(1, .ref (x.ad 0 0)), (1, .int w), (1, .ref (x.ad 26 0)), xo, xo, xo] dX1_abortAll_4 rfl (by decide) rfl ?_
  refine x_aload_n 6 dX1_abortAll_5 rfl rfl ?_
  refine x_alen 7 dX1_abortAll_6 rfl ar_26 (hT.ks.l26 (by omega)) ?_
  refine x_vi (congrArg nI (hT.ks.n26 (by omega))) ?_
  refine x_istore_n 8 [(1, .ref (x.ad 0 0)), (1, .int w), (1, .ref (x.ad 26 0)), (1, .int (nI 16)), xo, xo] dX1_abortAll_7 rfl (by decide) rfl ?_
  refine x_iconst (v := 0) 9 dX1_abortAll_8 rfl rfl ?_
  refine x_istore 11 [(1, .ref (x.ad 0 0)), (1, .int w), (1, .ref (x.ad 26 0)), (1, .int (nI 16)), (1, .int 0), xo] dX1_abortAll_9 rfl (by decide) rfl ?_
  exact l_X1_abortAll (s := (I, R, th)) (mm := mm) hq 0 I R th v hn (by omega) hT hK rfl
theorem dX4_by_0 : decode cX4_by 0 = .ok (.aload_n 0, 1) := by decide +kernel
theorem dX4_by_1 : decode cX4_by 1 = .ok (.iload_n 1, 1) := by decide +kernel
theorem dX4_by_2 : decode cX4_by 2 = .ok (.putfield 7, 3) := by decide +kernel
theorem dX4_by_5 : decode cX4_by 5 = .ok (.aload_n 0, 1) := by decide +kernel
theorem dX4_by_6 : decode cX4_by 6 = .ok (.areturn, 1) := by decide +kernel
set_option maxHeartbeats 4000000 in
set_option maxRecDepth 100000 in
theorem c_X4_by {G : xG} {n : Nat} {Q : Outcome → xS → Prop} {I : xI} {J : xJ} {R Z : xR} {T : xT} {N B : Nat} (hk : KS Z T N B) {c : Int32} (hn : 1 ≤ n) (hq : Q (.returned (some (.ref (T.ad 3 0)))) (xu I 3 0 0 c, J, R, Z, T)) : xCall G mX4_by n [.ref (T.ad 3 0), .int c] (I, J, R, Z, T) Q := by
  refine x_met (L0 := [(1, .ref (T.ad 3 0)), (1, .int c)]) (by decide +kernel) rfl ⟨Nat.le_of_ble_eq_true rfl, rfl⟩ ?_
  refine x_aload_n 1 dX4_by_0 rfl rfl ?_
  refine x_iload_n 2 dX4_by_1 rfl rfl ?_
  refine x_puti 5 dX4_by_2 rfl fl_X4_7 rfl rfl (hk.l3 (by omega)) ?_
  refine x_nmI fun I1 hI1 => ?_
  refine x_aload_n 6 dX4_by_5 rfl rfl ?_
  refine x_areturn dX4_by_6 rfl (Or.inl ⟨_, rfl⟩) ?_
  rw [hI1]; exact hq
