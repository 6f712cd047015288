set_option maxRecDepth 100000
/-! Inode: class 6 -/
theorem xfil_skip {α : Type} {f : Nat → Nat → Nat → α} {c i s k : Nat} {g : Nat → α} (h : g k = f c i k) : xfil f c i s k g = xfil f c i s (k + 1) g := by
  funext c' i' j
  by_cases e : c' = c ∧ i' = i
  · obtain ⟨rfl, rfl⟩ := e
    simp only [xfil, xur, and_self, if_true]
    by_cases e2 : j = k
    · subst e2
      rw [if_neg (by omega)]
      split
      · exact h.symm
      · rfl
    · by_cases e3 : s ≤ j ∧ j < k
      · rw [if_pos e3, if_pos (by omega)]
      · rw [if_neg e3, if_neg (by omega)]
  · simp only [xfil, xur, if_neg e]
def iFree (I : xI) (i : Nat) : Prop := I 6 i 1 = 0 ∧ I 6 i 13 = 0
def iDir (I : xI) (i : Nat) : Prop := I 6 i 1 = 2
def iNamesFor (I : xI) (i : Nat) (w : Int32) : Int32 := if I 6 i 11 = -1 ∨ I 6 i 11 = w then I 6 i 2 else I 6 i 6
def iKeptBy (I : xI) (i s : Nat) (w : Int32) : Int32 := if I 42 i s = w then I 41 i s else I 40 i s
def iClr0 (I : xI) (i : Nat) : xI := xu (xu (xu (xu (xu (xu (xu (xu (xu (xu (xu (xu I 6 i 1 0) 6 i 2 0) 6 i 3 0) 6 i 4 0) 6 i 10 (-1)) 6 i 11 (-1)) 6 i 12 (-1)) 6 i 13 0) 6 i 14 0) 6 i 15 0) 6 i 17 0) 6 i 18 0
def iClr (I : xI) (i : Nat) : xI := xur (xur (xur (xur (iClr0 I i) 36 i (fun _ => 0)) 40 i (fun _ => 0)) 41 i (fun _ => 0)) 42 i (fun _ => -1)
/-- the letters of slot s are the m of f from t on -/
def nmIs (I : xI) (i s : Nat) (f : Nat → Int32) (t m : Nat) : Prop := ∀ k, k < 14 → I 43 i (14 * s + k) = if k < m then f (t + k) else 0
noncomputable def iSlot (I : xI) (i : Nat) (f : Nat → Int32) (t m : Nat) : Int32 := fstI (fun s => ¬ I 41 i s ≤ 0 ∧ nmIs I i s f t m) 512
noncomputable def iFreeSlot (I : xI) (i : Nat) : Int32 := fstI (fun s => I 40 i s = 0 ∧ I 41 i s = 0) 512
def iName (I : xI) (i s : Nat) (f : Nat → Int32) (t m : Nat) : xI := xfil I 43 i (14 * s) (14 * s + 14) (fun j => if j - 14 * s < m then f (t + (j - 14 * s)) else 0)
noncomputable def iEntries (I : xI) (i : Nat) : Nat := cntN (fun s => ¬ I 41 i s ≤ 0) 512
def iUndoS (I : xI) (i : Nat) (w : Int32) : xI := xur (xur I 41 i (fun s => if I 42 i s = w then I 40 i s else I 41 i s)) 42 i (fun s => if I 42 i s = w then -1 else I 42 i s)
def iKeepS (I : xI) (i : Nat) (w : Int32) : xI := xur (xur I 40 i (fun s => if I 42 i s = w then I 41 i s else I 40 i s)) 42 i (fun s => if I 42 i s = w then -1 else I 42 i s)
theorem dX7_isFree_0 : decode cX7_isFree 0 = .ok (.aload_n 0, 1) := by decide +kernel
theorem dX7_isFree_1 : decode cX7_isFree 1 = .ok (.getfield 50, 3) := by decide +kernel
theorem dX7_isFree_4 : decode cX7_isFree 4 = .ok (.ifCond .ne 14, 3) := by decide +kernel
theorem dX7_isFree_7 : decode cX7_isFree 7 = .ok (.aload_n 0, 1) := by decide +kernel
theorem dX7_isFree_8 : decode cX7_isFree 8 = .ok (.getfield 53, 3) := by decide +kernel
theorem dX7_isFree_11 : decode cX7_isFree 11 = .ok (.ifCond .ne 7, 3) := by decide +kernel
theorem dX7_isFree_14 : decode cX7_isFree 14 = .ok (.iconst 1, 1) := by decide +kernel
theorem dX7_isFree_15 : decode cX7_isFree 15 = .ok (.goto 4, 3) := by decide +kernel
theorem dX7_isFree_18 : decode cX7_isFree 18 = .ok (.iconst 0, 1) := by decide +kernel
theorem dX7_isFree_19 : decode cX7_isFree 19 = .ok (.ireturn, 1) := by decide +kernel
set_option maxHeartbeats 4000000 in
set_option maxRecDepth 100000 in
theorem c_X7_isFree {G : xG} {n : Nat} {Q : Outcome → xS → Prop} {I : xI} {J : xJ} {R Z : xR} {T : xT} {N B : Nat} (hk : KS Z T N B) {i : Nat} (hi : i < N) (hn : 1 ≤ n) (hq : Q (.returned (some (.int (b2i (iFree I i))))) (I, J, R, Z, T)) : xCall G mX7_isFree n [.ref (T.ad 6 i)] (I, J, R, Z, T) Q := by
  refine x_met (L0 := [(1, .ref (T.ad 6 i))]) (by decide +kernel) rfl ⟨Nat.le_of_ble_eq_true rfl, rfl⟩ ?_
  refine x_aload_n 1 dX7_isFree_0 rfl rfl ?_
  refine x_geti 4 dX7_isFree_1 rfl fl_X7_50 (hk.l6 (by omega)) ?_
  refine x_if_ne 18 7 dX7_isFree_4 (by decide) rfl (fun c4 => ?_) (fun c4 => ?_)
  · skip
    refine x_iconst (v := 0) 19 dX7_isFree_18 rfl rfl ?_
    refine x_zreturn dX7_isFree_19 rfl (Or.inl rfl) ?_
    exact xr0 (P := iFree I i) (by unfold iFree; simp_all) hq
  · skip
    refine x_aload_n 8 dX7_isFree_7 rfl rfl ?_
    refine x_geti 11 dX7_isFree_8 rfl fl_X7_53 (hk.l6 (by omega)) ?_
    refine x_if_ne 18 14 dX7_isFree_11 (by decide) rfl (fun c11 => ?_) (fun c11 => ?_)
    · skip
      refine x_iconst (v := 0) 19 dX7_isFree_18 rfl rfl ?_
      refine x_zreturn dX7_isFree_19 rfl (Or.inl rfl) ?_
      exact xr0 (P := iFree I i) (by unfold iFree; simp_all) hq
    · skip
      refine x_iconst (v := 1) 15 dX7_isFree_14 rfl rfl ?_
      refine x_goto 19 dX7_isFree_15 (by decide) ?_
      refine x_zreturn dX7_isFree_19 rfl (Or.inr rfl) ?_
      exact xr1 (P := iFree I i) (⟨by assumption, by assumption⟩) hq
theorem dX7_isDirectory_0 : decode cX7_isDirectory 0 = .ok (.aload_n 0, 1) := by decide +kernel
theorem dX7_isDirectory_1 : decode cX7_isDirectory 1 = .ok (.getfield 50, 3) := by decide +kernel
theorem dX7_isDirectory_4 : decode cX7_isDirectory 4 = .ok (.iconst 2, 1) := by decide +kernel
theorem dX7_isDirectory_5 : decode cX7_isDirectory 5 = .ok (.if_icmp .ne 7, 3) := by decide +kernel
theorem dX7_isDirectory_8 : decode cX7_isDirectory 8 = .ok (.iconst 1, 1) := by decide +kernel
theorem dX7_isDirectory_9 : decode cX7_isDirectory 9 = .ok (.goto 4, 3) := by decide +kernel
theorem dX7_isDirectory_12 : decode cX7_isDirectory 12 = .ok (.iconst 0, 1) := by decide +kernel
theorem dX7_isDirectory_13 : decode cX7_isDirectory 13 = .ok (.ireturn, 1) := by decide +kernel
set_option maxHeartbeats 4000000 in
set_option maxRecDepth 100000 in
theorem c_X7_isDirectory {G : xG} {n : Nat} {Q : Outcome → xS → Prop} {I : xI} {J : xJ} {R Z : xR} {T : xT} {N B : Nat} (hk : KS Z T N B) {i : Nat} (hi : i < N) (hn : 1 ≤ n) (hq : Q (.returned (some (.int (b2i (iDir I i))))) (I, J, R, Z, T)) : xCall G mX7_isDirectory n [.ref (T.ad 6 i)] (I, J, R, Z, T) Q := by
  refine x_met (L0 := [(1, .ref (T.ad 6 i))]) (by decide +kernel) rfl ⟨Nat.le_of_ble_eq_true rfl, rfl⟩ ?_
  refine x_aload_n 1 dX7_isDirectory_0 rfl rfl ?_
  refine x_geti 4 dX7_isDirectory_1 rfl fl_X7_50 (hk.l6 (by omega)) ?_
  refine x_iconst (v := 2) 5 dX7_isDirectory_4 rfl rfl ?_
  refine x_icmp_ne 12 8 dX7_isDirectory_5 (by decide) rfl (fun c5 => ?_) (fun c5 => ?_)
  · skip
    refine x_iconst (v := 0) 13 dX7_isDirectory_12 rfl rfl ?_
    refine x_zreturn dX7_isDirectory_13 rfl (Or.inl rfl) ?_
    exact xr0 (P := iDir I i) (c5) hq
  · skip
    refine x_iconst (v := 1) 9 dX7_isDirectory_8 rfl rfl ?_
    refine x_goto 13 dX7_isDirectory_9 (by decide) ?_
    refine x_zreturn dX7_isDirectory_13 rfl (Or.inr rfl) ?_
    exact xr1 (P := iDir I i) (c5) hq
theorem dX7_namesFor_0 : decode cX7_namesFor 0 = .ok (.aload_n 0, 1) := by decide +kernel
theorem dX7_namesFor_1 : decode cX7_namesFor 1 = .ok (.getfield 22, 3) := by decide +kernel
theorem dX7_namesFor_4 : decode cX7_namesFor 4 = .ok (.iconst (-1), 1) := by decide +kernel
theorem dX7_namesFor_5 : decode cX7_namesFor 5 = .ok (.if_icmp .eq 11, 3) := by decide +kernel
theorem dX7_namesFor_8 : decode cX7_namesFor 8 = .ok (.aload_n 0, 1) := by decide +kernel
theorem dX7_namesFor_9 : decode cX7_namesFor 9 = .ok (.getfield 22, 3) := by decide +kernel
theorem dX7_namesFor_12 : decode cX7_namesFor 12 = .ok (.iload_n 1, 1) := by decide +kernel
theorem dX7_namesFor_13 : decode cX7_namesFor 13 = .ok (.if_icmp .ne 10, 3) := by decide +kernel
theorem dX7_namesFor_16 : decode cX7_namesFor 16 = .ok (.aload_n 0, 1) := by decide +kernel
theorem dX7_namesFor_17 : decode cX7_namesFor 17 = .ok (.getfield 56, 3) := by decide +kernel
theorem dX7_namesFor_20 : decode cX7_namesFor 20 = .ok (.goto 7, 3) := by decide +kernel
theorem dX7_namesFor_23 : decode cX7_namesFor 23 = .ok (.aload_n 0, 1) := by decide +kernel
theorem dX7_namesFor_24 : decode cX7_namesFor 24 = .ok (.getfield 59, 3) := by decide +kernel
theorem dX7_namesFor_27 : decode cX7_namesFor 27 = .ok (.ireturn, 1) := by decide +kernel
set_option maxHeartbeats 4000000 in
set_option maxRecDepth 100000 in
theorem c_X7_namesFor {G : xG} {n : Nat} {Q : Outcome → xS → Prop} {I : xI} {J : xJ} {R Z : xR} {T : xT} {N B : Nat} (hk : KS Z T N B) {i : Nat} (hi : i < N) {w : Int32} (hn : 1 ≤ n) (hq : Q (.returned (some (.int (iNamesFor I i w)))) (I, J, R, Z, T)) : xCall G mX7_namesFor n [.ref (T.ad 6 i), .int w] (I, J, R, Z, T) Q := by
  refine x_met (L0 := [(1, .ref (T.ad 6 i)), (1, .int w)]) (by decide +kernel) rfl ⟨Nat.le_of_ble_eq_true rfl, rfl⟩ ?_
  refine x_aload_n 1 dX7_namesFor_0 rfl rfl ?_
  refine x_geti 4 dX7_namesFor_1 rfl fl_X7_22 (hk.l6 (by omega)) ?_
  refine x_iconst (v := -1) 5 dX7_namesFor_4 rfl rfl ?_
  refine x_icmp_eq 16 8 dX7_namesFor_5 (by decide) rfl (fun c5 => ?_) (fun c5 => ?_)
  · skip
    refine x_aload_n 17 dX7_namesFor_16 rfl rfl ?_
    refine x_geti 20 dX7_namesFor_17 rfl fl_X7_56 (hk.l6 (by omega)) ?_
    refine x_goto 27 dX7_namesFor_20 (by decide) ?_
    refine x_ireturn dX7_namesFor_27 rfl ?_
    exact xri (by unfold iNamesFor; simp_all) hq
  · skip
    refine x_aload_n 9 dX7_namesFor_8 rfl rfl ?_
    refine x_geti 12 dX7_namesFor_9 rfl fl_X7_22 (hk.l6 (by omega)) ?_
    refine x_iload_n 13 dX7_namesFor_12 rfl rfl ?_
    refine x_icmp_ne 23 16 dX7_namesFor_13 (by decide) rfl (fun c13 => ?_) (fun c13 => ?_)
    · skip
      refine x_aload_n 24 dX7_namesFor_23 rfl rfl ?_
      refine x_geti 27 dX7_namesFor_24 rfl fl_X7_59 (hk.l6 (by omega)) ?_
      refine x_ireturn dX7_namesFor_27 rfl ?_
      exact xri (by unfold iNamesFor; simp_all) hq
    · skip
      refine x_aload_n 17 dX7_namesFor_16 rfl rfl ?_
      refine x_geti 20 dX7_namesFor_17 rfl fl_X7_56 (hk.l6 (by omega)) ?_
      refine x_goto 27 dX7_namesFor_20 (by decide) ?_
      refine x_ireturn dX7_namesFor_27 rfl ?_
      exact xri (by unfold iNamesFor; simp_all) hq
theorem dX7_keptBy_0 : decode cX7_keptBy 0 = .ok (.aload_n 0, 1) := by decide +kernel
theorem dX7_keptBy_1 : decode cX7_keptBy 1 = .ok (.getfield 41, 3) := by decide +kernel
theorem dX7_keptBy_4 : decode cX7_keptBy 4 = .ok (.iload_n 1, 1) := by decide +kernel
theorem dX7_keptBy_5 : decode cX7_keptBy 5 = .ok (.iaload, 1) := by decide +kernel
theorem dX7_keptBy_6 : decode cX7_keptBy 6 = .ok (.iload_n 2, 1) := by decide +kernel
theorem dX7_keptBy_7 : decode cX7_keptBy 7 = .ok (.if_icmp .ne 12, 3) := by decide +kernel
theorem dX7_keptBy_10 : decode cX7_keptBy 10 = .ok (.aload_n 0, 1) := by decide +kernel
theorem dX7_keptBy_11 : decode cX7_keptBy 11 = .ok (.getfield 38, 3) := by decide +kernel
theorem dX7_keptBy_14 : decode cX7_keptBy 14 = .ok (.iload_n 1, 1) := by decide +kernel
theorem dX7_keptBy_15 : decode cX7_keptBy 15 = .ok (.iaload, 1) := by decide +kernel
theorem dX7_keptBy_16 : decode cX7_keptBy 16 = .ok (.goto 9, 3) := by decide +kernel
theorem dX7_keptBy_19 : decode cX7_keptBy 19 = .ok (.aload_n 0, 1) := by decide +kernel
theorem dX7_keptBy_20 : decode cX7_keptBy 20 = .ok (.getfield 35, 3) := by decide +kernel
theorem dX7_keptBy_23 : decode cX7_keptBy 23 = .ok (.iload_n 1, 1) := by decide +kernel
theorem dX7_keptBy_24 : decode cX7_keptBy 24 = .ok (.iaload, 1) := by decide +kernel
theorem dX7_keptBy_25 : decode cX7_keptBy 25 = .ok (.ireturn, 1) := by decide +kernel
set_option maxHeartbeats 4000000 in
set_option maxRecDepth 100000 in
theorem c_X7_keptBy {G : xG} {n : Nat} {Q : Outcome → xS → Prop} {I : xI} {J : xJ} {R Z : xR} {T : xT} {N B : Nat} (hk : KS Z T N B) {i : Nat} (hi : i < N) {s : Nat} {w : Int32} (hs : s < 512) (hn : 1 ≤ n) (hq : Q (.returned (some (.int (iKeptBy I i s w)))) (I, J, R, Z, T)) : xCall G mX7_keptBy n [.ref (T.ad 6 i), .int (nI s), .int w] (I, J, R, Z, T) Q := by
  refine x_met (L0 := [(1, .ref (T.ad 6 i)), (1, .int (nI s)), (1, .int w)]) (by decide +kernel) rfl ⟨Nat.le_of_ble_eq_true rfl, rfl⟩ ?_
  refine x_aload_n 1 dX7_keptBy_0 rfl rfl ?_
  refine x_getz 4 dX7_keptBy_1 rfl fl_X7_41 (hk.l6 (by omega)) (hk.z6_28 (by omega)) ?_
  refine x_iload_n 5 dX7_keptBy_4 rfl rfl ?_
  refine x_iald 6 dX7_keptBy_5 rfl ar_42 (hk.l42 (by omega)) (xb (hk.n42 (by omega)) (by omega) (by omega)) ?_
  refine x_iload_n 7 dX7_keptBy_6 rfl rfl ?_
  refine x_icmp_ne 19 10 dX7_keptBy_7 (by decide) rfl (fun c7 => ?_) (fun c7 => ?_)
  · skip
    refine x_aload_n 20 dX7_keptBy_19 rfl rfl ?_
    refine x_getz 23 dX7_keptBy_20 rfl fl_X7_35 (hk.l6 (by omega)) (hk.z6_26 (by omega)) ?_
    refine x_iload_n 24 dX7_keptBy_23 rfl rfl ?_
    refine x_iald 25 dX7_keptBy_24 rfl ar_40 (hk.l40 (by omega)) (xb (hk.n40 (by omega)) (by omega) (by omega)) ?_
    refine x_ireturn dX7_keptBy_25 rfl ?_
    exact xri (by unfold iKeptBy; simp_all) hq
  · skip
    refine x_aload_n 11 dX7_keptBy_10 rfl rfl ?_
    refine x_getz 14 dX7_keptBy_11 rfl fl_X7_38 (hk.l6 (by omega)) (hk.z6_27 (by omega)) ?_
    refine x_iload_n 15 dX7_keptBy_14 rfl rfl ?_
    refine x_iald 16 dX7_keptBy_15 rfl ar_41 (hk.l41 (by omega)) (xb (hk.n41 (by omega)) (by omega) (by omega)) ?_
    refine x_goto 25 dX7_keptBy_16 (by decide) ?_
    refine x_ireturn dX7_keptBy_25 rfl ?_
    exact xri (by unfold iKeptBy; simp_all) hq
theorem dX7_put_0 : decode cX7_put 0 = .ok (.aload_n 0, 1) := by decide +kernel
theorem dX7_put_1 : decode cX7_put 1 = .ok (.getfield 38, 3) := by decide +kernel
theorem dX7_put_4 : decode cX7_put 4 = .ok (.iload_n 1, 1) := by decide +kernel
theorem dX7_put_5 : decode cX7_put 5 = .ok (.iload_n 2, 1) := by decide +kernel
theorem dX7_put_6 : decode cX7_put 6 = .ok (.iconst 1, 1) := by decide +kernel
theorem dX7_put_7 : decode cX7_put 7 = .ok (.iadd, 1) := by decide +kernel
theorem dX7_put_8 : decode cX7_put 8 = .ok (.iastore, 1) := by decide +kernel
theorem dX7_put_9 : decode cX7_put 9 = .ok (.aload_n 0, 1) := by decide +kernel
theorem dX7_put_10 : decode cX7_put 10 = .ok (.getfield 41, 3) := by decide +kernel
theorem dX7_put_13 : decode cX7_put 13 = .ok (.iload_n 1, 1) := by decide +kernel
theorem dX7_put_14 : decode cX7_put 14 = .ok (.iload_n 3, 1) := by decide +kernel
theorem dX7_put_15 : decode cX7_put 15 = .ok (.iastore, 1) := by decide +kernel
theorem dX7_put_16 : decode cX7_put 16 = .ok (.return_, 1) := by decide +kernel
set_option maxHeartbeats 4000000 in
set_option maxRecDepth 100000 in
theorem c_X7_put {G : xG} {n : Nat} {Q : Outcome → xS → Prop} {I : xI} {J : xJ} {R Z : xR} {T : xT} {N B : Nat} (hk : KS Z T N B) {i : Nat} (hi : i < N) {s : Nat} {v w : Int32} (hs : s < 512) (hn : 1 ≤ n) (hq : Q (.returned none) (xu (xu I 41 i s (v + 1)) 42 i s w, J, R, Z, T)) : xCall G mX7_put n [.ref (T.ad 6 i), .int (nI s), .int v, .int w] (I, J, R, Z, T) Q := by
  refine x_met (L0 := [(1, .ref (T.ad 6 i)), (1, .int (nI s)), (1, .int v), (1, .int w)]) (by decide +kernel) rfl ⟨Nat.le_of_ble_eq_true rfl, rfl⟩ ?_
  refine x_aload_n 1 dX7_put_0 rfl rfl ?_
  refine x_getz 4 dX7_put_1 rfl fl_X7_38 (hk.l6 (by omega)) (hk.z6_27 (by omega)) ?_
  refine x_iload_n 5 dX7_put_4 rfl rfl ?_
  refine x_iload_n 6 dX7_put_5 rfl rfl ?_
  refine x_iconst (v := 1) 7 dX7_put_6 rfl rfl ?_
  refine x_iadd 8 dX7_put_7 rfl ?_
  refine x_iast 9 dX7_put_8 rfl ar_41 (by decide) (by decide) (hk.l41 (by omega)) (xb (hk.n41 (by omega)) (by omega) (by omega)) ?_
  refine x_nmI fun I1 hI1 => ?_
  refine x_aload_n 10 dX7_put_9 rfl rfl ?_
  refine x_getz 13 dX7_put_10 rfl fl_X7_41 (hk.l6 (by omega)) (hk.z6_28 (by omega)) ?_
  refine x_iload_n 14 dX7_put_13 rfl rfl ?_
  refine x_iload_n 15 dX7_put_14 rfl rfl ?_
  refine x_iast 16 dX7_put_15 rfl ar_42 (by decide) (by decide) (hk.l42 (by omega)) (xb (hk.n42 (by omega)) (by omega) (by omega)) ?_
  refine x_nmI fun I2 hI2 => ?_
  refine x_vreturn dX7_put_16 rfl ?_
  rw [hI2, hI1]; exact hq
theorem dX7_clear_0 : decode cX7_clear 0 = .ok (.aload_n 0, 1) := by decide +kernel
theorem dX7_clear_1 : decode cX7_clear 1 = .ok (.iconst 0, 1) := by decide +kernel
theorem dX7_clear_2 : decode cX7_clear 2 = .ok (.putfield 50, 3) := by decide +kernel
theorem dX7_clear_5 : decode cX7_clear 5 = .ok (.aload_n 0, 1) := by decide +kernel
theorem dX7_clear_6 : decode cX7_clear 6 = .ok (.iconst 0, 1) := by decide +kernel
theorem dX7_clear_7 : decode cX7_clear 7 = .ok (.putfield 56, 3) := by decide +kernel
theorem dX7_clear_10 : decode cX7_clear 10 = .ok (.aload_n 0, 1) := by decide +kernel
theorem dX7_clear_11 : decode cX7_clear 11 = .ok (.iconst 0, 1) := by decide +kernel
theorem dX7_clear_12 : decode cX7_clear 12 = .ok (.putfield 62, 3) := by decide +kernel
theorem dX7_clear_15 : decode cX7_clear 15 = .ok (.aload_n 0, 1) := by decide +kernel
theorem dX7_clear_16 : decode cX7_clear 16 = .ok (.iconst 0, 1) := by decide +kernel
theorem dX7_clear_17 : decode cX7_clear 17 = .ok (.putfield 65, 3) := by decide +kernel
theorem dX7_clear_20 : decode cX7_clear 20 = .ok (.aload_n 0, 1) := by decide +kernel
theorem dX7_clear_21 : decode cX7_clear 21 = .ok (.iconst (-1), 1) := by decide +kernel
theorem dX7_clear_22 : decode cX7_clear 22 = .ok (.putfield 18, 3) := by decide +kernel
theorem dX7_clear_25 : decode cX7_clear 25 = .ok (.aload_n 0, 1) := by decide +kernel
theorem dX7_clear_26 : decode cX7_clear 26 = .ok (.iconst (-1), 1) := by decide +kernel
theorem dX7_clear_27 : decode cX7_clear 27 = .ok (.putfield 22, 3) := by decide +kernel
theorem dX7_clear_30 : decode cX7_clear 30 = .ok (.aload_n 0, 1) := by decide +kernel
theorem dX7_clear_31 : decode cX7_clear 31 = .ok (.iconst (-1), 1) := by decide +kernel
theorem dX7_clear_32 : decode cX7_clear 32 = .ok (.putfield 25, 3) := by decide +kernel
theorem dX7_clear_35 : decode cX7_clear 35 = .ok (.aload_n 0, 1) := by decide +kernel
theorem dX7_clear_36 : decode cX7_clear 36 = .ok (.iconst 0, 1) := by decide +kernel
theorem dX7_clear_37 : decode cX7_clear 37 = .ok (.putfield 53, 3) := by decide +kernel
theorem dX7_clear_40 : decode cX7_clear 40 = .ok (.aload_n 0, 1) := by decide +kernel
theorem dX7_clear_41 : decode cX7_clear 41 = .ok (.iconst 0, 1) := by decide +kernel
theorem dX7_clear_42 : decode cX7_clear 42 = .ok (.putfield 68, 3) := by decide +kernel
theorem dX7_clear_45 : decode cX7_clear 45 = .ok (.aload_n 0, 1) := by decide +kernel
theorem dX7_clear_46 : decode cX7_clear 46 = .ok (.iconst 0, 1) := by decide +kernel
theorem dX7_clear_47 : decode cX7_clear 47 = .ok (.putfield 71, 3) := by decide +kernel
theorem dX7_clear_50 : decode cX7_clear 50 = .ok (.aload_n 0, 1) := by decide +kernel
theorem dX7_clear_51 : decode cX7_clear 51 = .ok (.iconst 0, 1) := by decide +kernel
theorem dX7_clear_52 : decode cX7_clear 52 = .ok (.putfield 74, 3) := by decide +kernel
theorem dX7_clear_55 : decode cX7_clear 55 = .ok (.aload_n 0, 1) := by decide +kernel
theorem dX7_clear_56 : decode cX7_clear 56 = .ok (.iconst 0, 1) := by decide +kernel
theorem dX7_clear_57 : decode cX7_clear 57 = .ok (.putfield 77, 3) := by decide +kernel
theorem dX7_clear_60 : decode cX7_clear 60 = .ok (.iconst 0, 1) := by decide +kernel
theorem dX7_clear_61 : decode cX7_clear 61 = .ok (.istore_n 1, 1) := by decide +kernel
theorem dX7_clear_62 : decode cX7_clear 62 = .ok (.iload_n 1, 1) := by decide +kernel
theorem dX7_clear_63 : decode cX7_clear 63 = .ok (.sipush 8192, 3) := by decide +kernel
theorem dX7_clear_66 : decode cX7_clear 66 = .ok (.if_icmp .ge 16, 3) := by decide +kernel
theorem dX7_clear_69 : decode cX7_clear 69 = .ok (.aload_n 0, 1) := by decide +kernel
theorem dX7_clear_70 : decode cX7_clear 70 = .ok (.getfield 9, 3) := by decide +kernel
theorem dX7_clear_73 : decode cX7_clear 73 = .ok (.iload_n 1, 1) := by decide +kernel
theorem dX7_clear_74 : decode cX7_clear 74 = .ok (.iconst 0, 1) := by decide +kernel
theorem dX7_clear_75 : decode cX7_clear 75 = .ok (.bastore, 1) := by decide +kernel
theorem dX7_clear_76 : decode cX7_clear 76 = .ok (.iinc 1 1, 3) := by decide +kernel
theorem dX7_clear_79 : decode cX7_clear 79 = .ok (.goto (-17), 3) := by decide +kernel
theorem dX7_clear_82 : decode cX7_clear 82 = .ok (.iconst 0, 1) := by decide +kernel
theorem dX7_clear_83 : decode cX7_clear 83 = .ok (.istore_n 1, 1) := by decide +kernel
theorem dX7_clear_84 : decode cX7_clear 84 = .ok (.iload_n 1, 1) := by decide +kernel
theorem dX7_clear_85 : decode cX7_clear 85 = .ok (.sipush 512, 3) := by decide +kernel
theorem dX7_clear_88 : decode cX7_clear 88 = .ok (.if_icmp .ge 30, 3) := by decide +kernel
theorem dX7_clear_91 : decode cX7_clear 91 = .ok (.aload_n 0, 1) := by decide +kernel
theorem dX7_clear_92 : decode cX7_clear 92 = .ok (.getfield 35, 3) := by decide +kernel
theorem dX7_clear_95 : decode cX7_clear 95 = .ok (.iload_n 1, 1) := by decide +kernel
theorem dX7_clear_96 : decode cX7_clear 96 = .ok (.iconst 0, 1) := by decide +kernel
theorem dX7_clear_97 : decode cX7_clear 97 = .ok (.iastore, 1) := by decide +kernel
theorem dX7_clear_98 : decode cX7_clear 98 = .ok (.aload_n 0, 1) := by decide +kernel
theorem dX7_clear_99 : decode cX7_clear 99 = .ok (.getfield 38, 3) := by decide +kernel
theorem dX7_clear_102 : decode cX7_clear 102 = .ok (.iload_n 1, 1) := by decide +kernel
theorem dX7_clear_103 : decode cX7_clear 103 = .ok (.iconst 0, 1) := by decide +kernel
theorem dX7_clear_104 : decode cX7_clear 104 = .ok (.iastore, 1) := by decide +kernel
theorem dX7_clear_105 : decode cX7_clear 105 = .ok (.aload_n 0, 1) := by decide +kernel
theorem dX7_clear_106 : decode cX7_clear 106 = .ok (.getfield 41, 3) := by decide +kernel
theorem dX7_clear_109 : decode cX7_clear 109 = .ok (.iload_n 1, 1) := by decide +kernel
theorem dX7_clear_110 : decode cX7_clear 110 = .ok (.iconst (-1), 1) := by decide +kernel
theorem dX7_clear_111 : decode cX7_clear 111 = .ok (.iastore, 1) := by decide +kernel
theorem dX7_clear_112 : decode cX7_clear 112 = .ok (.iinc 1 1, 3) := by decide +kernel
theorem dX7_clear_115 : decode cX7_clear 115 = .ok (.goto (-31), 3) := by decide +kernel
theorem dX7_clear_118 : decode cX7_clear 118 = .ok (.return_, 1) := by decide +kernel
set_option maxHeartbeats 4000000 in
set_option maxRecDepth 100000 in
theorem l_X7_clear_62 {G : xG} {n a b : Nat} {Q : Outcome → xS → Prop} {R : xR} {J : xJ} {Z : xR} {T : xT} {I0 : xI} {N B : Nat} (hk : KS Z T N B) {i : Nat} (hi : i < N) (hx : X G mX7_clear n a b Q (xur I0 36 i (fun _ => 0), J, R, Z, T) 82 [(1, .ref (T.ad 6 i)), (1, .int (nI 8192))] []) (hn : 1 ≤ n) (k : Nat) (I : xI) :
    (0 ≤ k ∧ k ≤ 8192) → (I = xfil I0 36 i 0 k (fun _ => 0)) → X G mX7_clear n a b Q (I, J, R, Z, T) 62 [(1, .ref (T.ad 6 i)), (1, .int (nI k))] [] := by
  induction hm : 8192 - k using Nat.strongRecOn generalizing k I with
  | _ m_ ih =>
    intro h8 hI
    refine x_iload_n 63 dX7_clear_62 rfl rfl ?_
    refine x_sipush (v := 8192) 66 dX7_clear_63 rfl rfl ?_
    refine x_icmp_ge 82 69 dX7_clear_66 (by decide) rfl (fun c66 => ?_) (fun c66 => ?_)
    · skip
      have c66 : 8192 ≤ k := (nI_leI (a := 8192) (b := k) (by omega) (by omega)).mp c66
      have e : k = 8192 := by omega
      rw [hI, e]
      refine x_eqI (fun c_ i_ k_ hl_ hx_ => ?_) hx
      by_cases e36 : c_ = 36 ∧ i_ = i
      · obtain ⟨e1_, e2_⟩ := e36; subst e1_; rw [e2_] at hx_ ⊢
        have hi2 : k_ < T.len 36 i := by simpa [xIn] using hx_
        rw [(hk.n36 (by omega))] at hi2
        rw [xur_eq, xfil_in (by omega)]
      rw [xur_n e36, xfil_n e36]
    · skip
      have c66 : ¬ (8192 ≤ k) := fun h => c66 ((nI_leI (a := 8192) (b := k) (by omega) (by omega)).mpr h)
      refine x_aload_n 70 dX7_clear_69 rfl rfl ?_
      refine x_getz 73 dX7_clear_70 rfl fl_X7_9 (hk.l6 (by omega)) (hk.z6_5 (by omega)) ?_
      refine x_iload_n 74 dX7_clear_73 rfl rfl ?_
      refine x_iconst (v := 0) 75 dX7_clear_74 rfl rfl ?_
      refine x_bast 76 dX7_clear_75 rfl ar_36 (by decide) (by decide) (hk.l36 (by omega)) (xb (hk.n36 (by omega)) (by omega) (by omega)) ?_
      refine x_nmI fun I1 hI1 => ?_
      refine x_iinc 79 [(1, .ref (T.ad 6 i)), (1, .int (nI (k + 1)))] dX7_clear_76 rfl (by decide) rfl (xi_1 k) rfl ?_
      refine x_goto 62 dX7_clear_79 (by decide) ?_
      have e : I1 = xfil I0 36 i 0 (k + 1) (fun _ => 0) := by
        rw [hI1, hI]
        rw [xfil_step (by omega) (by first | rfl | simp_all)]
      exact ih _ (by rw [← hm]; omega) (k + 1) I1 rfl (by omega) e
set_option maxHeartbeats 4000000 in
set_option maxRecDepth 100000 in
theorem l_X7_clear_84 {G : xG} {n a b : Nat} {Q : Outcome → xS → Prop} {R : xR} {J : xJ} {Z : xR} {T : xT} {I0 : xI} {N B : Nat} (hk : KS Z T N B) {i : Nat} (hi : i < N) (hx : X G mX7_clear n a b Q (xur (xur (xur I0 40 i (fun _ => 0)) 41 i (fun _ => 0)) 42 i (fun _ => -1), J, R, Z, T) 118 [(1, .ref (T.ad 6 i)), (1, .int (nI 512))] []) (hn : 1 ≤ n) (k : Nat) (I : xI) :
    (0 ≤ k ∧ k ≤ 512) → (I = xfil (xfil (xfil I0 40 i 0 k (fun _ => 0)) 41 i 0 k (fun _ => 0)) 42 i 0 k (fun _ => -1)) → X G mX7_clear n a b Q (I, J, R, Z, T) 84 [(1, .ref (T.ad 6 i)), (1, .int (nI k))] [] := by
  induction hm : 512 - k using Nat.strongRecOn generalizing k I with
  | _ m_ ih =>
    intro h8 hI
    refine x_iload_n 85 dX7_clear_84 rfl rfl ?_
    refine x_sipush (v := 512) 88 dX7_clear_85 rfl rfl ?_
    refine x_icmp_ge 118 91 dX7_clear_88 (by decide) rfl (fun c88 => ?_) (fun c88 => ?_)
    · skip
      have c88 : 512 ≤ k := (nI_leI (a := 512) (b := k) (by omega) (by omega)).mp c88
      have e : k = 512 := by omega
      rw [hI, e]
      refine x_eqI (fun c_ i_ k_ hl_ hx_ => ?_) hx
      by_cases e42 : c_ = 42 ∧ i_ = i
      · obtain ⟨e1_, e2_⟩ := e42; subst e1_; rw [e2_] at hx_ ⊢
        have hi2 : k_ < T.len 42 i := by simpa [xIn] using hx_
        rw [(hk.n42 (by omega))] at hi2
        rw [xur_eq, xfil_in (by omega)]
      rw [xur_n e42, xfil_n e42]
      by_cases e41 : c_ = 41 ∧ i_ = i
      · obtain ⟨e1_, e2_⟩ := e41; subst e1_; rw [e2_] at hx_ ⊢
        have hi2 : k_ < T.len 41 i := by simpa [xIn] using hx_
        rw [(hk.n41 (by omega))] at hi2
        rw [xur_eq, xfil_in (by omega)]
      rw [xur_n e41, xfil_n e41]
      by_cases e40 : c_ = 40 ∧ i_ = i
      · obtain ⟨e1_, e2_⟩ := e40; subst e1_; rw [e2_] at hx_ ⊢
        have hi2 : k_ < T.len 40 i := by simpa [xIn] using hx_
        rw [(hk.n40 (by omega))] at hi2
        rw [xur_eq, xfil_in (by omega)]
      rw [xur_n e40, xfil_n e40]
    · skip
      have c88 : ¬ (512 ≤ k) := fun h => c88 ((nI_leI (a := 512) (b := k) (by omega) (by omega)).mpr h)
      refine x_aload_n 92 dX7_clear_91 rfl rfl ?_
      refine x_getz 95 dX7_clear_92 rfl fl_X7_35 (hk.l6 (by omega)) (hk.z6_26 (by omega)) ?_
      refine x_iload_n 96 dX7_clear_95 rfl rfl ?_
      refine x_iconst (v := 0) 97 dX7_clear_96 rfl rfl ?_
      refine x_iast 98 dX7_clear_97 rfl ar_40 (by decide) (by decide) (hk.l40 (by omega)) (xb (hk.n40 (by omega)) (by omega) (by omega)) ?_
      refine x_nmI fun I1 hI1 => ?_
      refine x_aload_n 99 dX7_clear_98 rfl rfl ?_
      refine x_getz 102 dX7_clear_99 rfl fl_X7_38 (hk.l6 (by omega)) (hk.z6_27 (by omega)) ?_
      refine x_iload_n 103 dX7_clear_102 rfl rfl ?_
      refine x_iconst (v := 0) 104 dX7_clear_103 rfl rfl ?_
      refine x_iast 105 dX7_clear_104 rfl ar_41 (by decide) (by decide) (hk.l41 (by omega)) (xb (hk.n41 (by omega)) (by omega) (by omega)) ?_
      refine x_nmI fun I2 hI2 => ?_
      refine x_aload_n 106 dX7_clear_105 rfl rfl ?_
      refine x_getz 109 dX7_clear_106 rfl fl_X7_41 (hk.l6 (by omega)) (hk.z6_28 (by omega)) ?_
      refine x_iload_n 110 dX7_clear_109 rfl rfl ?_
      refine x_iconst (v := -1) 111 dX7_clear_110 rfl rfl ?_
      refine x_iast 112 dX7_clear_111 rfl ar_42 (by decide) (by decide) (hk.l42 (by omega)) (xb (hk.n42 (by omega)) (by omega) (by omega)) ?_
      refine x_nmI fun I3 hI3 => ?_
      refine x_iinc 115 [(1, .ref (T.ad 6 i)), (1, .int (nI (k + 1)))] dX7_clear_112 rfl (by decide) rfl (xi_1 k) rfl ?_
      refine x_goto 84 dX7_clear_115 (by decide) ?_
      have e : I3 = xfil (xfil (xfil I0 40 i 0 (k + 1) (fun _ => 0)) 41 i 0 (k + 1) (fun _ => 0)) 42 i 0 (k + 1) (fun _ => -1) := by
        rw [hI3, hI2, hI1, hI]
        rw [xu_xfil (by decide), xu_xfil (by decide), xfil_step (by omega) (by first | rfl | simp_all), xu_xfil (by decide), xfil_step (by omega) (by first | rfl | simp_all), xfil_step (by omega) (by first | rfl | simp_all)]
      exact ih _ (by rw [← hm]; omega) (k + 1) I3 rfl (by omega) e
set_option maxHeartbeats 4000000 in
set_option maxRecDepth 100000 in
theorem c_X7_clear {G : xG} {n : Nat} {Q : Outcome → xS → Prop} {I : xI} {J : xJ} {R Z : xR} {T : xT} {N B : Nat} (hk : KS Z T N B) {i : Nat} (hi : i < N) (hn : 1 ≤ n) (hq : Q (.returned none) (iClr I i, J, R, Z, T)) : xCall G mX7_clear n [.ref (T.ad 6 i)] (I, J, R, Z, T) Q := by
  refine x_met (L0 := [(1, .ref (T.ad 6 i)), xo]) (by decide +kernel) rfl ⟨Nat.le_of_ble_eq_true rfl, rfl⟩ ?_
  refine x_aload_n 1 dX7_clear_0 rfl rfl ?_
  refine x_iconst (v := 0) 2 dX7_clear_1 rfl rfl ?_
  refine x_puti 5 dX7_clear_2 rfl fl_X7_50 rfl rfl (hk.l6 (by omega)) ?_
  refine x_nmI fun I1 hI1 => ?_
  refine x_aload_n 6 dX7_clear_5 rfl rfl ?_
  refine x_iconst (v := 0) 7 dX7_clear_6 rfl rfl ?_
  refine x_puti 10 dX7_clear_7 rfl fl_X7_56 rfl rfl (hk.l6 (by omega)) ?_
  refine x_nmI fun I2 hI2 => ?_
  refine x_aload_n 11 dX7_clear_10 rfl rfl ?_
  refine x_iconst (v := 0) 12 dX7_clear_11 rfl rfl ?_
  refine x_puti 15 dX7_clear_12 rfl fl_X7_62 rfl rfl (hk.l6 (by omega)) ?_
  refine x_nmI fun I3 hI3 => ?_
  refine x_aload_n 16 dX7_clear_15 rfl rfl ?_
  refine x_iconst (v := 0) 17 dX7_clear_16 rfl rfl ?_
  refine x_puti 20 dX7_clear_17 rfl fl_X7_65 rfl rfl (hk.l6 (by omega)) ?_
  refine x_nmI fun I4 hI4 => ?_
  refine x_aload_n 21 dX7_clear_20 rfl rfl ?_
  refine x_iconst (v := -1) 22 dX7_clear_21 rfl rfl ?_
  refine x_puti 25 dX7_clear_22 rfl fl_X7_18 rfl rfl (hk.l6 (by omega)) ?_
  refine x_nmI fun I5 hI5 => ?_
  refine x_aload_n 26 dX7_clear_25 rfl rfl ?_
  refine x_iconst (v := -1) 27 dX7_clear_26 rfl rfl ?_
  refine x_puti 30 dX7_clear_27 rfl fl_X7_22 rfl rfl (hk.l6 (by omega)) ?_
  refine x_nmI fun I6 hI6 => ?_
  refine x_aload_n 31 dX7_clear_30 rfl rfl ?_
  refine x_iconst (v := -1) 32 dX7_clear_31 rfl rfl ?_
  refine x_puti 35 dX7_clear_32 rfl fl_X7_25 rfl rfl (hk.l6 (by omega)) ?_
  refine x_nmI fun I7 hI7 => ?_
  refine x_aload_n 36 dX7_clear_35 rfl rfl ?_
  refine x_iconst (v := 0) 37 dX7_clear_36 rfl rfl ?_
  refine x_puti 40 dX7_clear_37 rfl fl_X7_53 rfl rfl (hk.l6 (by omega)) ?_
  refine x_nmI fun I8 hI8 => ?_
  refine x_aload_n 41 dX7_clear_40 rfl rfl ?_
  refine x_iconst (v := 0) 42 dX7_clear_41 rfl rfl ?_
  refine x_puti 45 dX7_clear_42 rfl fl_X7_68 rfl rfl (hk.l6 (by omega)) ?_
  refine x_nmI fun I9 hI9 => ?_
  refine x_aload_n 46 dX7_clear_45 rfl rfl ?_
  refine x_iconst (v := 0) 47 dX7_clear_46 rfl rfl ?_
  refine x_puti 50 dX7_clear_47 rfl fl_X7_71 rfl rfl (hk.l6 (by omega)) ?_
  refine x_nmI fun I10 hI10 => ?_
  refine x_aload_n 51 dX7_clear_50 rfl rfl ?_
  refine x_iconst (v := 0) 52 dX7_clear_51 rfl rfl ?_
  refine x_puti 55 dX7_clear_52 rfl fl_X7_74 rfl rfl (hk.l6 (by omega)) ?_
  refine x_nmI fun I11 hI11 => ?_
  refine x_aload_n 56 dX7_clear_55 rfl rfl ?_
  refine x_iconst (v := 0) 57 dX7_clear_56 rfl rfl ?_
  refine x_puti 60 dX7_clear_57 rfl fl_X7_77 rfl rfl (hk.l6 (by omega)) ?_
  refine x_nmI fun I12 hI12 => ?_
  refine x_iconst (v := 0) 61 dX7_clear_60 rfl rfl ?_
  refine x_istore_n 62 [(1, .ref (T.ad 6 i)), (1, .int 0)] dX7_clear_61 rfl (by decide) rfl ?_
  refine l_X7_clear_62 hk hi ?_ hn 0 _ (by omega) (xfil_0 _ _ _ _ _).symm
  refine x_iconst (v := 0) 83 dX7_clear_82 rfl rfl ?_
  refine x_istore_n 84 [(1, .ref (T.ad 6 i)), (1, .int 0)] dX7_clear_83 rfl (by decide) rfl ?_
  refine l_X7_clear_84 hk hi ?_ hn 0 _ (by omega) (by rw [xfil_0, xfil_0, xfil_0])
  refine x_vreturn dX7_clear_118 rfl ?_
  subst hI12 hI11 hI10 hI9 hI8 hI7 hI6 hI5 hI4 hI3 hI2 hI1; exact hq
theorem dX7_hasName_0 : decode cX7_hasName 0 = .ok (.iconst 0, 1) := by decide +kernel
theorem dX7_hasName_1 : decode cX7_hasName 1 = .ok (.istore 5, 2) := by decide +kernel
theorem dX7_hasName_3 : decode cX7_hasName 3 = .ok (.iload 5, 2) := by decide +kernel
theorem dX7_hasName_5 : decode cX7_hasName 5 = .ok (.bipush 14, 2) := by decide +kernel
theorem dX7_hasName_7 : decode cX7_hasName 7 = .ok (.if_icmp .ge 43, 3) := by decide +kernel
theorem dX7_hasName_10 : decode cX7_hasName 10 = .ok (.aload_n 0, 1) := by decide +kernel
theorem dX7_hasName_11 : decode cX7_hasName 11 = .ok (.getfield 44, 3) := by decide +kernel
theorem dX7_hasName_14 : decode cX7_hasName 14 = .ok (.bipush 14, 2) := by decide +kernel
theorem dX7_hasName_16 : decode cX7_hasName 16 = .ok (.iload_n 1, 1) := by decide +kernel
theorem dX7_hasName_17 : decode cX7_hasName 17 = .ok (.imul, 1) := by decide +kernel
theorem dX7_hasName_18 : decode cX7_hasName 18 = .ok (.iload 5, 2) := by decide +kernel
theorem dX7_hasName_20 : decode cX7_hasName 20 = .ok (.iadd, 1) := by decide +kernel
theorem dX7_hasName_21 : decode cX7_hasName 21 = .ok (.baload, 1) := by decide +kernel
theorem dX7_hasName_22 : decode cX7_hasName 22 = .ok (.iload 5, 2) := by decide +kernel
theorem dX7_hasName_24 : decode cX7_hasName 24 = .ok (.iload 4, 2) := by decide +kernel
theorem dX7_hasName_26 : decode cX7_hasName 26 = .ok (.if_icmp .ge 12, 3) := by decide +kernel
theorem dX7_hasName_29 : decode cX7_hasName 29 = .ok (.aload_n 2, 1) := by decide +kernel
theorem dX7_hasName_30 : decode cX7_hasName 30 = .ok (.iload_n 3, 1) := by decide +kernel
theorem dX7_hasName_31 : decode cX7_hasName 31 = .ok (.iload 5, 2) := by decide +kernel
theorem dX7_hasName_33 : decode cX7_hasName 33 = .ok (.iadd, 1) := by decide +kernel
theorem dX7_hasName_34 : decode cX7_hasName 34 = .ok (.baload, 1) := by decide +kernel
theorem dX7_hasName_35 : decode cX7_hasName 35 = .ok (.goto 4, 3) := by decide +kernel
theorem dX7_hasName_38 : decode cX7_hasName 38 = .ok (.iconst 0, 1) := by decide +kernel
theorem dX7_hasName_39 : decode cX7_hasName 39 = .ok (.if_icmp .eq 5, 3) := by decide +kernel
theorem dX7_hasName_42 : decode cX7_hasName 42 = .ok (.iconst 0, 1) := by decide +kernel
theorem dX7_hasName_43 : decode cX7_hasName 43 = .ok (.ireturn, 1) := by decide +kernel
theorem dX7_hasName_44 : decode cX7_hasName 44 = .ok (.iinc 5 1, 3) := by decide +kernel
theorem dX7_hasName_47 : decode cX7_hasName 47 = .ok (.goto (-44), 3) := by decide +kernel
theorem dX7_hasName_50 : decode cX7_hasName 50 = .ok (.iconst 1, 1) := by decide +kernel
theorem dX7_hasName_51 : decode cX7_hasName 51 = .ok (.ireturn, 1) := by decide +kernel
set_option maxHeartbeats 4000000 in
set_option maxRecDepth 100000 in
theorem l_X7_hasName {G : xG} {n a b : Nat} {Q : Outcome → xS → Prop} {J : xJ} {Z : xR} {T : xT} {R : xR} {I : xI} {N B : Nat} (hk : KS Z T N B) {i : Nat} (hi : i < N) {c j tg : Nat} (har : xAr c .byte 0 tg) (hlv : T.lv c j) {s t m : Nat} (hs : s < 512) (ht : t + m ≤ T.len c j ∧ t + m < 1000000) (hq : Q (.returned (some (.int (b2i (nmIs I i s (I c j) t m))))) (I, J, R, Z, T)) (k : Nat) (hn : 1 ≤ n) :
    (k ≤ 14) → (∀ q, q < k → I 43 i (14 * s + q) = if q < m then I c j (t + q) else 0) → X G mX7_hasName n a b Q (I, J, R, Z, T) 3 [(1, .ref (T.ad 6 i)), (1, .int (nI s)), (1, .ref (T.ad c j)), (1, .int (nI t)), (1, .int (nI m)), (1, .int (nI k))] [] := by
  induction hm : 14 - k using Nat.strongRecOn generalizing k with
  | _ m_ ih =>
    intro h8 hv
    refine x_iload 5 dX7_hasName_3 rfl rfl ?_
    refine x_bipush (v := 14) 7 dX7_hasName_5 rfl rfl ?_
    refine x_icmp_ge 50 10 dX7_hasName_7 (by decide) rfl (fun c7 => ?_) (fun c7 => ?_)
    · skip
      have c7 : 14 ≤ k := (nI_leI (a := 14) (b := k) (by omega) (by omega)).mp c7
      refine x_iconst (v := 1) 51 dX7_hasName_50 rfl rfl ?_
      refine x_zreturn dX7_hasName_51 rfl (Or.inr rfl) ?_
      exact xr1 (P := nmIs I i s (I c j) t m) (fun q hq_ => hv q (by omega)) hq
    · skip
      have c7 : ¬ (14 ≤ k) := fun h => c7 ((nI_leI (a := 14) (b := k) (by omega) (by omega)).mpr h)
      refine x_aload_n 11 dX7_hasName_10 rfl rfl ?_
      refine x_getz 14 dX7_hasName_11 rfl fl_X7_44 (hk.l6 hi) (hk.z6_29 (by omega)) ?_
      refine x_bipush (v := 14) 16 dX7_hasName_14 rfl rfl ?_
      refine x_iload_n 17 dX7_hasName_16 rfl rfl ?_
      refine x_imuln 14 s 18 dX7_hasName_17 rfl rfl rfl ?_
      refine x_iload 20 dX7_hasName_18 rfl rfl ?_
      refine x_iaddn (14 * s) k 21 dX7_hasName_20 rfl rfl rfl ?_
      refine x_bald 22 dX7_hasName_21 rfl ar_43 (hk.l43 hi) (xb (hk.n43 (by omega)) (by omega) (by omega)) ?_
      refine x_iload 24 dX7_hasName_22 rfl rfl ?_
      refine x_iload 26 dX7_hasName_24 rfl rfl ?_
      refine x_icmp_ge 38 29 dX7_hasName_26 (by decide) rfl (fun c26 => ?_) (fun c26 => ?_)
      · skip
        have c26 : m ≤ k := (nI_leI (a := m) (b := k) (by omega) (by omega)).mp c26
        refine x_iconst (v := 0) 39 dX7_hasName_38 rfl rfl ?_
        refine x_icmp_eq 44 42 dX7_hasName_39 (by decide) rfl (fun c39 => ?_) (fun c39 => ?_)
        · skip
          refine x_iinc 47 [(1, .ref (T.ad 6 i)), (1, .int (nI s)), (1, .ref (T.ad c j)), (1, .int (nI t)), (1, .int (nI m)), (1, .int (nI (k + 1)))] dX7_hasName_44 rfl (by decide) rfl (xi_1 k) rfl ?_
          refine x_goto 3 dX7_hasName_47 (by decide) ?_
          exact ih _ (by rw [← hm]; omega) (k + 1) rfl (by omega) (lt_succ_of hv (by rw [c39]; first | rw [if_pos (by omega)] | rw [if_neg (by omega)]))
        · skip
          refine x_iconst (v := 0) 43 dX7_hasName_42 rfl rfl ?_
          refine x_zreturn dX7_hasName_43 rfl (Or.inl rfl) ?_
          exact xr0 (P := nmIs I i s (I c j) t m) (fun h => c39 (by rw [h k (by omega)]; first | rw [if_pos (by omega)] | rw [if_neg (by omega)])) hq
      · skip
        have c26 : ¬ (m ≤ k) := fun h => c26 ((nI_leI (a := m) (b := k) (by omega) (by omega)).mpr h)
        refine x_aload_n 30 dX7_hasName_29 rfl rfl ?_
        refine x_iload_n 31 dX7_hasName_30 rfl rfl ?_
        refine x_iload 33 dX7_hasName_31 rfl rfl ?_
        refine x_iaddn t k 34 dX7_hasName_33 rfl rfl rfl ?_
        refine x_bald 35 dX7_hasName_34 rfl har hlv ⟨by omega, by omega⟩ ?_
        refine x_goto 39 dX7_hasName_35 (by decide) ?_
        refine x_icmp_eq 44 42 dX7_hasName_39 (by decide) rfl (fun c39 => ?_) (fun c39 => ?_)
        · skip
          refine x_iinc 47 [(1, .ref (T.ad 6 i)), (1, .int (nI s)), (1, .ref (T.ad c j)), (1, .int (nI t)), (1, .int (nI m)), (1, .int (nI (k + 1)))] dX7_hasName_44 rfl (by decide) rfl (xi_1 k) rfl ?_
          refine x_goto 3 dX7_hasName_47 (by decide) ?_
          exact ih _ (by rw [← hm]; omega) (k + 1) rfl (by omega) (lt_succ_of hv (by rw [c39]; first | rw [if_pos (by omega)] | rw [if_neg (by omega)]))
        · skip
          refine x_iconst (v := 0) 43 dX7_hasName_42 rfl rfl ?_
          refine x_zreturn dX7_hasName_43 rfl (Or.inl rfl) ?_
          exact xr0 (P := nmIs I i s (I c j) t m) (fun h => c39 (by rw [h k (by omega)]; first | rw [if_pos (by omega)] | rw [if_neg (by omega)])) hq
set_option maxHeartbeats 4000000 in
set_option maxRecDepth 100000 in
theorem c_X7_hasName {G : xG} {n : Nat} {Q : Outcome → xS → Prop} {I : xI} {J : xJ} {R Z : xR} {T : xT} {N B : Nat} (hk : KS Z T N B) {i : Nat} (hi : i < N) {c j tg : Nat} (har : xAr c .byte 0 tg) (hlv : T.lv c j) {s t m : Nat} (hs : s < 512) (ht : t + m ≤ T.len c j ∧ t + m < 1000000) (hn : 1 ≤ n) (hq : Q (.returned (some (.int (b2i (nmIs I i s (I c j) t m))))) (I, J, R, Z, T)) : xCall G mX7_hasName n [.ref (T.ad 6 i), .int (nI s), .ref (T.ad c j), .int (nI t), .int (nI m)] (I, J, R, Z, T) Q := by
  refine x_met (L0 := [(1, .ref (T.ad 6 i)), (1, .int (nI s)), (1, .ref (T.ad c j)), (1, .int (nI t)), (1, .int (nI m)), xo]) (by decide +kernel) rfl ⟨Nat.le_of_ble_eq_true rfl, rfl⟩ ?_
  refine x_iconst (v := 0) 1 dX7_hasName_0 rfl rfl ?_
  refine x_istore 3 [(1, .ref (T.ad 6 i)), (1, .int (nI s)), (1, .ref (T.ad c j)), (1, .int (nI t)), (1, .int (nI m)), (1, .int 0)] dX7_hasName_1 rfl (by decide) rfl ?_
  exact l_X7_hasName hk hi har hlv hs ht hq 0 hn (by omega) (fun q hq_ => absurd hq_ (by omega))
theorem dX7_slotOf_0 : decode cX7_slotOf 0 = .ok (.iconst 0, 1) := by decide +kernel
theorem dX7_slotOf_1 : decode cX7_slotOf 1 = .ok (.istore 4, 2) := by decide +kernel
theorem dX7_slotOf_3 : decode cX7_slotOf 3 = .ok (.iload 4, 2) := by decide +kernel
theorem dX7_slotOf_5 : decode cX7_slotOf 5 = .ok (.sipush 512, 3) := by decide +kernel
theorem dX7_slotOf_8 : decode cX7_slotOf 8 = .ok (.if_icmp .ge 34, 3) := by decide +kernel
theorem dX7_slotOf_11 : decode cX7_slotOf 11 = .ok (.aload_n 0, 1) := by decide +kernel
theorem dX7_slotOf_12 : decode cX7_slotOf 12 = .ok (.getfield 38, 3) := by decide +kernel
theorem dX7_slotOf_15 : decode cX7_slotOf 15 = .ok (.iload 4, 2) := by decide +kernel
theorem dX7_slotOf_17 : decode cX7_slotOf 17 = .ok (.iaload, 1) := by decide +kernel
theorem dX7_slotOf_18 : decode cX7_slotOf 18 = .ok (.ifCond .le 18, 3) := by decide +kernel
theorem dX7_slotOf_21 : decode cX7_slotOf 21 = .ok (.aload_n 0, 1) := by decide +kernel
theorem dX7_slotOf_22 : decode cX7_slotOf 22 = .ok (.iload 4, 2) := by decide +kernel
theorem dX7_slotOf_24 : decode cX7_slotOf 24 = .ok (.aload_n 1, 1) := by decide +kernel
theorem dX7_slotOf_25 : decode cX7_slotOf 25 = .ok (.iload_n 2, 1) := by decide +kernel
theorem dX7_slotOf_26 : decode cX7_slotOf 26 = .ok (.iload_n 3, 1) := by decide +kernel
theorem dX7_slotOf_27 : decode cX7_slotOf 27 = .ok (.invokevirtual 80, 3) := by decide +kernel
theorem dX7_slotOf_30 : decode cX7_slotOf 30 = .ok (.ifCond .eq 6, 3) := by decide +kernel
theorem dX7_slotOf_33 : decode cX7_slotOf 33 = .ok (.iload 4, 2) := by decide +kernel
theorem dX7_slotOf_35 : decode cX7_slotOf 35 = .ok (.ireturn, 1) := by decide +kernel
theorem dX7_slotOf_36 : decode cX7_slotOf 36 = .ok (.iinc 4 1, 3) := by decide +kernel
theorem dX7_slotOf_39 : decode cX7_slotOf 39 = .ok (.goto (-36), 3) := by decide +kernel
theorem dX7_slotOf_42 : decode cX7_slotOf 42 = .ok (.iconst (-1), 1) := by decide +kernel
theorem dX7_slotOf_43 : decode cX7_slotOf 43 = .ok (.ireturn, 1) := by decide +kernel
set_option maxHeartbeats 4000000 in
set_option maxRecDepth 100000 in
theorem l_X7_slotOf {G : xG} {n a b : Nat} {Q : Outcome → xS → Prop} {J : xJ} {Z : xR} {T : xT} {R : xR} {I : xI} {N B : Nat} (hk : KS Z T N B) {i : Nat} (hi : i < N) {c j tg : Nat} (har : xAr c .byte 0 tg) (hlv : T.lv c j) {t m : Nat} (ht : t + m ≤ T.len c j ∧ t + m < 1000000) (hq : Q (.returned (some (.int (iSlot I i (I c j) t m)))) (I, J, R, Z, T)) (k : Nat) (hn : 2 ≤ n) :
    (k ≤ 512) → (∀ q, q < k → ¬ (¬ I 41 i q ≤ 0 ∧ nmIs I i q (I c j) t m)) → X G mX7_slotOf n a b Q (I, J, R, Z, T) 3 [(1, .ref (T.ad 6 i)), (1, .ref (T.ad c j)), (1, .int (nI t)), (1, .int (nI m)), (1, .int (nI k))] [] := by
  induction hm : 512 - k using Nat.strongRecOn generalizing k with
  | _ m_ ih =>
    intro h8 hv
    refine x_iload 5 dX7_slotOf_3 rfl rfl ?_
    refine x_sipush (v := 512) 8 dX7_slotOf_5 rfl rfl ?_
    refine x_icmp_ge 42 11 dX7_slotOf_8 (by decide) rfl (fun c8 => ?_) (fun c8 => ?_)
    · skip
      have c8 : 512 ≤ k := (nI_leI (a := 512) (b := k) (by omega) (by omega)).mp c8
      refine x_iconst (v := -1) 43 dX7_slotOf_42 rfl rfl ?_
      refine x_ireturn dX7_slotOf_43 rfl ?_
      exact xri (fstI_none (P := (fun s => ¬ I 41 i s ≤ 0 ∧ nmIs I i s (I c j) t m)) (fun q hq_ => hv q (by omega))).symm hq
    · skip
      have c8 : ¬ (512 ≤ k) := fun h => c8 ((nI_leI (a := 512) (b := k) (by omega) (by omega)).mpr h)
      refine x_aload_n 12 dX7_slotOf_11 rfl rfl ?_
      refine x_getz 15 dX7_slotOf_12 rfl fl_X7_38 (hk.l6 hi) (hk.z6_27 (by omega)) ?_
      refine x_iload 17 dX7_slotOf_15 rfl rfl ?_
      refine x_iald 18 dX7_slotOf_17 rfl ar_41 (hk.l41 hi) (xb (hk.n41 (by omega)) (by omega) (by omega)) ?_
      refine x_if_le 36 21 dX7_slotOf_18 (by decide) rfl (fun c18 => ?_) (fun c18 => ?_)
      · skip
        refine x_iinc 39 [(1, .ref (T.ad 6 i)), (1, .ref (T.ad c j)), (1, .int (nI t)), (1, .int (nI m)), (1, .int (nI (k + 1)))] dX7_slotOf_36 rfl (by decide) rfl (xi_1 k) rfl ?_
        refine x_goto 3 dX7_slotOf_39 (by decide) ?_
        exact ih _ (by rw [← hm]; omega) (k + 1) rfl (by omega) (lt_succ_of (P := fun q => ¬ (¬ I 41 i q ≤ 0 ∧ nmIs I i q (I c j) t m)) hv (by simp_all))
      · skip
        refine x_aload_n 22 dX7_slotOf_21 rfl rfl ?_
        refine x_iload 24 dX7_slotOf_22 rfl rfl ?_
        refine x_aload_n 25 dX7_slotOf_24 rfl rfl ?_
        refine x_iload_n 26 dX7_slotOf_25 rfl rfl ?_
        refine x_iload_n 27 dX7_slotOf_26 rfl rfl ?_
        refine x_callV (as := [.int (nI k), .ref (T.ad c j), .int (nI t), .int (nI m)]) (rest := []) (i := i) (n' := n - 1) 30 dX7_slotOf_27 rfl mv_X7_80 rfl rfl (hk.l6 hi) (xnh rfl) (by omega) (xst (Nat.le_of_ble_eq_true rfl)) (c_X7_hasName hk (by omega) har hlv (by omega) ⟨by omega, by omega⟩ (by omega) ?_)
        change X _ _ _ _ _ _ _ _ _ _
        refine x_if_eq 36 33 dX7_slotOf_30 (by decide) rfl (fun c30 => ?_) (fun c30 => ?_)
        · skip
          have c30 : ¬ (nmIs I i k (I c j) t m) := b2i_0.mp c30
          refine x_iinc 39 [(1, .ref (T.ad 6 i)), (1, .ref (T.ad c j)), (1, .int (nI t)), (1, .int (nI m)), (1, .int (nI (k + 1)))] dX7_slotOf_36 rfl (by decide) rfl (xi_1 k) rfl ?_
          refine x_goto 3 dX7_slotOf_39 (by decide) ?_
          exact ih _ (by rw [← hm]; omega) (k + 1) rfl (by omega) (lt_succ_of (P := fun q => ¬ (¬ I 41 i q ≤ 0 ∧ nmIs I i q (I c j) t m)) hv (by simp_all))
        · skip
          have c30 : nmIs I i k (I c j) t m := b2i_n0.mp c30
          refine x_iload 35 dX7_slotOf_33 rfl rfl ?_
          refine x_ireturn dX7_slotOf_35 rfl ?_
          exact xri (fstI_some (P := (fun s => ¬ I 41 i s ≤ 0 ∧ nmIs I i s (I c j) t m)) (by omega) ⟨c18, c30⟩ hv).symm hq
set_option maxHeartbeats 4000000 in
set_option maxRecDepth 100000 in
theorem c_X7_slotOf {G : xG} {n : Nat} {Q : Outcome → xS → Prop} {I : xI} {J : xJ} {R Z : xR} {T : xT} {N B : Nat} (hk : KS Z T N B) {i : Nat} (hi : i < N) {c j tg : Nat} (har : xAr c .byte 0 tg) (hlv : T.lv c j) {t m : Nat} (ht : t + m ≤ T.len c j ∧ t + m < 1000000) (hn : 2 ≤ n) (hq : Q (.returned (some (.int (iSlot I i (I c j) t m)))) (I, J, R, Z, T)) : xCall G mX7_slotOf n [.ref (T.ad 6 i), .ref (T.ad c j), .int (nI t), .int (nI m)] (I, J, R, Z, T) Q := by
  refine x_met (L0 := [(1, .ref (T.ad 6 i)), (1, .ref (T.ad c j)), (1, .int (nI t)), (1, .int (nI m)), xo]) (by decide +kernel) rfl ⟨Nat.le_of_ble_eq_true rfl, rfl⟩ ?_
  refine x_iconst (v := 0) 1 dX7_slotOf_0 rfl rfl ?_
  refine x_istore 3 [(1, .ref (T.ad 6 i)), (1, .ref (T.ad c j)), (1, .int (nI t)), (1, .int (nI m)), (1, .int 0)] dX7_slotOf_1 rfl (by decide) rfl ?_
  exact l_X7_slotOf hk hi har hlv ht hq 0 hn (by omega) (fun q hq_ => absurd hq_ (by omega))
theorem dX7_freeSlot_0 : decode cX7_freeSlot 0 = .ok (.iconst 0, 1) := by decide +kernel
theorem dX7_freeSlot_1 : decode cX7_freeSlot 1 = .ok (.istore_n 1, 1) := by decide +kernel
theorem dX7_freeSlot_2 : decode cX7_freeSlot 2 = .ok (.iload_n 1, 1) := by decide +kernel
theorem dX7_freeSlot_3 : decode cX7_freeSlot 3 = .ok (.sipush 512, 3) := by decide +kernel
theorem dX7_freeSlot_6 : decode cX7_freeSlot 6 = .ok (.if_icmp .ge 29, 3) := by decide +kernel
theorem dX7_freeSlot_9 : decode cX7_freeSlot 9 = .ok (.aload_n 0, 1) := by decide +kernel
theorem dX7_freeSlot_10 : decode cX7_freeSlot 10 = .ok (.getfield 35, 3) := by decide +kernel
theorem dX7_freeSlot_13 : decode cX7_freeSlot 13 = .ok (.iload_n 1, 1) := by decide +kernel
theorem dX7_freeSlot_14 : decode cX7_freeSlot 14 = .ok (.iaload, 1) := by decide +kernel
theorem dX7_freeSlot_15 : decode cX7_freeSlot 15 = .ok (.ifCond .ne 14, 3) := by decide +kernel
theorem dX7_freeSlot_18 : decode cX7_freeSlot 18 = .ok (.aload_n 0, 1) := by decide +kernel
theorem dX7_freeSlot_19 : decode cX7_freeSlot 19 = .ok (.getfield 38, 3) := by decide +kernel
theorem dX7_freeSlot_22 : decode cX7_freeSlot 22 = .ok (.iload_n 1, 1) := by decide +kernel
theorem dX7_freeSlot_23 : decode cX7_freeSlot 23 = .ok (.iaload, 1) := by decide +kernel
theorem dX7_freeSlot_24 : decode cX7_freeSlot 24 = .ok (.ifCond .ne 5, 3) := by decide +kernel
theorem dX7_freeSlot_27 : decode cX7_freeSlot 27 = .ok (.iload_n 1, 1) := by decide +kernel
theorem dX7_freeSlot_28 : decode cX7_freeSlot 28 = .ok (.ireturn, 1) := by decide +kernel
theorem dX7_freeSlot_29 : decode cX7_freeSlot 29 = .ok (.iinc 1 1, 3) := by decide +kernel
theorem dX7_freeSlot_32 : decode cX7_freeSlot 32 = .ok (.goto (-30), 3) := by decide +kernel
theorem dX7_freeSlot_35 : decode cX7_freeSlot 35 = .ok (.iconst (-1), 1) := by decide +kernel
theorem dX7_freeSlot_36 : decode cX7_freeSlot 36 = .ok (.ireturn, 1) := by decide +kernel
set_option maxHeartbeats 4000000 in
set_option maxRecDepth 100000 in
theorem l_X7_freeSlot {G : xG} {n a b : Nat} {Q : Outcome → xS → Prop} {J : xJ} {Z : xR} {T : xT} {R : xR} {I : xI} {N B : Nat} (hk : KS Z T N B) {i : Nat} (hi : i < N) (hq : Q (.returned (some (.int (iFreeSlot I i)))) (I, J, R, Z, T)) (k : Nat) (hn : 1 ≤ n) :
    (k ≤ 512) → (∀ q, q < k → ¬ (I 40 i q = 0 ∧ I 41 i q = 0)) → X G mX7_freeSlot n a b Q (I, J, R, Z, T) 2 [(1, .ref (T.ad 6 i)), (1, .int (nI k))] [] := by
  induction hm : 512 - k using Nat.strongRecOn generalizing k with
  | _ m_ ih =>
    intro h8 hv
    refine x_iload_n 3 dX7_freeSlot_2 rfl rfl ?_
    refine x_sipush (v := 512) 6 dX7_freeSlot_3 rfl rfl ?_
    refine x_icmp_ge 35 9 dX7_freeSlot_6 (by decide) rfl (fun c6 => ?_) (fun c6 => ?_)
    · skip
      have c6 : 512 ≤ k := (nI_leI (a := 512) (b := k) (by omega) (by omega)).mp c6
      refine x_iconst (v := -1) 36 dX7_freeSlot_35 rfl rfl ?_
      refine x_ireturn dX7_freeSlot_36 rfl ?_
      exact xri (fstI_none (P := (fun s => I 40 i s = 0 ∧ I 41 i s = 0)) (fun q hq_ => hv q (by omega))).symm hq
    · skip
      have c6 : ¬ (512 ≤ k) := fun h => c6 ((nI_leI (a := 512) (b := k) (by omega) (by omega)).mpr h)
      refine x_aload_n 10 dX7_freeSlot_9 rfl rfl ?_
      refine x_getz 13 dX7_freeSlot_10 rfl fl_X7_35 (hk.l6 (by omega)) (hk.z6_26 (by omega)) ?_
      refine x_iload_n 14 dX7_freeSlot_13 rfl rfl ?_
      refine x_iald 15 dX7_freeSlot_14 rfl ar_40 (hk.l40 (by omega)) (xb (hk.n40 (by omega)) (by omega) (by omega)) ?_
      refine x_if_ne 29 18 dX7_freeSlot_15 (by decide) rfl (fun c15 => ?_) (fun c15 => ?_)
      · skip
        refine x_iinc 32 [(1, .ref (T.ad 6 i)), (1, .int (nI (k + 1)))] dX7_freeSlot_29 rfl (by decide) rfl (xi_1 k) rfl ?_
        refine x_goto 2 dX7_freeSlot_32 (by decide) ?_
        exact ih _ (by rw [← hm]; omega) (k + 1) rfl (by omega) (lt_succ_of (P := fun q => ¬ (I 40 i q = 0 ∧ I 41 i q = 0)) hv (by simp_all))
      · skip
        refine x_aload_n 19 dX7_freeSlot_18 rfl rfl ?_
        refine x_getz 22 dX7_freeSlot_19 rfl fl_X7_38 (hk.l6 (by omega)) (hk.z6_27 (by omega)) ?_
        refine x_iload_n 23 dX7_freeSlot_22 rfl rfl ?_
        refine x_iald 24 dX7_freeSlot_23 rfl ar_41 (hk.l41 (by omega)) (xb (hk.n41 (by omega)) (by omega) (by omega)) ?_
        refine x_if_ne 29 27 dX7_freeSlot_24 (by decide) rfl (fun c24 => ?_) (fun c24 => ?_)
        · skip
          refine x_iinc 32 [(1, .ref (T.ad 6 i)), (1, .int (nI (k + 1)))] dX7_freeSlot_29 rfl (by decide) rfl (xi_1 k) rfl ?_
          refine x_goto 2 dX7_freeSlot_32 (by decide) ?_
          exact ih _ (by rw [← hm]; omega) (k + 1) rfl (by omega) (lt_succ_of (P := fun q => ¬ (I 40 i q = 0 ∧ I 41 i q = 0)) hv (by simp_all))
        · skip
          refine x_iload_n 28 dX7_freeSlot_27 rfl rfl ?_
          refine x_ireturn dX7_freeSlot_28 rfl ?_
          exact xri (fstI_some (P := (fun s => I 40 i s = 0 ∧ I 41 i s = 0)) (by omega) ⟨c15, c24⟩ hv).symm hq
set_option maxHeartbeats 4000000 in
set_option maxRecDepth 100000 in
theorem c_X7_freeSlot {G : xG} {n : Nat} {Q : Outcome → xS → Prop} {I : xI} {J : xJ} {R Z : xR} {T : xT} {N B : Nat} (hk : KS Z T N B) {i : Nat} (hi : i < N) (hn : 1 ≤ n) (hq : Q (.returned (some (.int (iFreeSlot I i)))) (I, J, R, Z, T)) : xCall G mX7_freeSlot n [.ref (T.ad 6 i)] (I, J, R, Z, T) Q := by
  refine x_met (L0 := [(1, .ref (T.ad 6 i)), xo]) (by decide +kernel) rfl ⟨Nat.le_of_ble_eq_true rfl, rfl⟩ ?_
  refine x_iconst (v := 0) 1 dX7_freeSlot_0 rfl rfl ?_
  refine x_istore_n 2 [(1, .ref (T.ad 6 i)), (1, .int 0)] dX7_freeSlot_1 rfl (by decide) rfl ?_
  exact l_X7_freeSlot hk hi hq 0 hn (by omega) (fun q hq_ => absurd hq_ (by omega))
theorem dX7_hasSlotsOf_0 : decode cX7_hasSlotsOf 0 = .ok (.iconst 0, 1) := by decide +kernel
theorem dX7_hasSlotsOf_1 : decode cX7_hasSlotsOf 1 = .ok (.istore_n 2, 1) := by decide +kernel
theorem dX7_hasSlotsOf_2 : decode cX7_hasSlotsOf 2 = .ok (.iload_n 2, 1) := by decide +kernel
theorem dX7_hasSlotsOf_3 : decode cX7_hasSlotsOf 3 = .ok (.sipush 512, 3) := by decide +kernel
theorem dX7_hasSlotsOf_6 : decode cX7_hasSlotsOf 6 = .ok (.if_icmp .ge 21, 3) := by decide +kernel
theorem dX7_hasSlotsOf_9 : decode cX7_hasSlotsOf 9 = .ok (.aload_n 0, 1) := by decide +kernel
theorem dX7_hasSlotsOf_10 : decode cX7_hasSlotsOf 10 = .ok (.getfield 41, 3) := by decide +kernel
theorem dX7_hasSlotsOf_13 : decode cX7_hasSlotsOf 13 = .ok (.iload_n 2, 1) := by decide +kernel
theorem dX7_hasSlotsOf_14 : decode cX7_hasSlotsOf 14 = .ok (.iaload, 1) := by decide +kernel
theorem dX7_hasSlotsOf_15 : decode cX7_hasSlotsOf 15 = .ok (.iload_n 1, 1) := by decide +kernel
theorem dX7_hasSlotsOf_16 : decode cX7_hasSlotsOf 16 = .ok (.if_icmp .ne 5, 3) := by decide +kernel
theorem dX7_hasSlotsOf_19 : decode cX7_hasSlotsOf 19 = .ok (.iconst 1, 1) := by decide +kernel
theorem dX7_hasSlotsOf_20 : decode cX7_hasSlotsOf 20 = .ok (.ireturn, 1) := by decide +kernel
theorem dX7_hasSlotsOf_21 : decode cX7_hasSlotsOf 21 = .ok (.iinc 2 1, 3) := by decide +kernel
theorem dX7_hasSlotsOf_24 : decode cX7_hasSlotsOf 24 = .ok (.goto (-22), 3) := by decide +kernel
theorem dX7_hasSlotsOf_27 : decode cX7_hasSlotsOf 27 = .ok (.iconst 0, 1) := by decide +kernel
theorem dX7_hasSlotsOf_28 : decode cX7_hasSlotsOf 28 = .ok (.ireturn, 1) := by decide +kernel
set_option maxHeartbeats 4000000 in
set_option maxRecDepth 100000 in
theorem l_X7_hasSlotsOf {G : xG} {n a b : Nat} {Q : Outcome → xS → Prop} {J : xJ} {Z : xR} {T : xT} {R : xR} {I : xI} {N B : Nat} (hk : KS Z T N B) {i : Nat} (hi : i < N) {w : Int32} (hq : Q (.returned (some (.int (b2i (∃ s, s < 512 ∧ I 42 i s = w))))) (I, J, R, Z, T)) (k : Nat) (hn : 1 ≤ n) :
    (k ≤ 512) → (∀ q, q < k → ¬ I 42 i q = w) → X G mX7_hasSlotsOf n a b Q (I, J, R, Z, T) 2 [(1, .ref (T.ad 6 i)), (1, .int w), (1, .int (nI k))] [] := by
  induction hm : 512 - k using Nat.strongRecOn generalizing k with
  | _ m_ ih =>
    intro h8 hv
    refine x_iload_n 3 dX7_hasSlotsOf_2 rfl rfl ?_
    refine x_sipush (v := 512) 6 dX7_hasSlotsOf_3 rfl rfl ?_
    refine x_icmp_ge 27 9 dX7_hasSlotsOf_6 (by decide) rfl (fun c6 => ?_) (fun c6 => ?_)
    · skip
      have c6 : 512 ≤ k := (nI_leI (a := 512) (b := k) (by omega) (by omega)).mp c6
      refine x_iconst (v := 0) 28 dX7_hasSlotsOf_27 rfl rfl ?_
      refine x_zreturn dX7_hasSlotsOf_28 rfl (Or.inl rfl) ?_
      exact xr0 (P := ∃ s, s < 512 ∧ I 42 i s = w) (fun ⟨q, h1, h2⟩ => hv q (by omega) h2) hq
    · skip
      have c6 : ¬ (512 ≤ k) := fun h => c6 ((nI_leI (a := 512) (b := k) (by omega) (by omega)).mpr h)
      refine x_aload_n 10 dX7_hasSlotsOf_9 rfl rfl ?_
      refine x_getz 13 dX7_hasSlotsOf_10 rfl fl_X7_41 (hk.l6 (by omega)) (hk.z6_28 (by omega)) ?_
      refine x_iload_n 14 dX7_hasSlotsOf_13 rfl rfl ?_
      refine x_iald 15 dX7_hasSlotsOf_14 rfl ar_42 (hk.l42 (by omega)) (xb (hk.n42 (by omega)) (by omega) (by omega)) ?_
      refine x_iload_n 16 dX7_hasSlotsOf_15 rfl rfl ?_
      refine x_icmp_ne 21 19 dX7_hasSlotsOf_16 (by decide) rfl (fun c16 => ?_) (fun c16 => ?_)
      · skip
        refine x_iinc 24 [(1, .ref (T.ad 6 i)), (1, .int w), (1, .int (nI (k + 1)))] dX7_hasSlotsOf_21 rfl (by decide) rfl (xi_1 k) rfl ?_
        refine x_goto 2 dX7_hasSlotsOf_24 (by decide) ?_
        exact ih _ (by rw [← hm]; omega) (k + 1) rfl (by omega) (lt_succ_of (P := fun q => ¬ I 42 i q = w) hv c16)
      · skip
        refine x_iconst (v := 1) 20 dX7_hasSlotsOf_19 rfl rfl ?_
        refine x_zreturn dX7_hasSlotsOf_20 rfl (Or.inr rfl) ?_
        exact xr1 (P := ∃ s, s < 512 ∧ I 42 i s = w) (⟨k, by omega, c16⟩) hq
set_option maxHeartbeats 4000000 in
set_option maxRecDepth 100000 in
theorem c_X7_hasSlotsOf {G : xG} {n : Nat} {Q : Outcome → xS → Prop} {I : xI} {J : xJ} {R Z : xR} {T : xT} {N B : Nat} (hk : KS Z T N B) {i : Nat} (hi : i < N) {w : Int32} (hn : 1 ≤ n) (hq : Q (.returned (some (.int (b2i (∃ s, s < 512 ∧ I 42 i s = w))))) (I, J, R, Z, T)) : xCall G mX7_hasSlotsOf n [.ref (T.ad 6 i), .int w] (I, J, R, Z, T) Q := by
  refine x_met (L0 := [(1, .ref (T.ad 6 i)), (1, .int w), xo]) (by decide +kernel) rfl ⟨Nat.le_of_ble_eq_true rfl, rfl⟩ ?_
  refine x_iconst (v := 0) 1 dX7_hasSlotsOf_0 rfl rfl ?_
  refine x_istore_n 2 [(1, .ref (T.ad 6 i)), (1, .int w), (1, .int 0)] dX7_hasSlotsOf_1 rfl (by decide) rfl ?_
  exact l_X7_hasSlotsOf hk hi hq 0 hn (by omega) (fun q hq_ => absurd hq_ (by omega))
theorem dX7_entries_0 : decode cX7_entries 0 = .ok (.iconst 0, 1) := by decide +kernel
theorem dX7_entries_1 : decode cX7_entries 1 = .ok (.istore_n 1, 1) := by decide +kernel
theorem dX7_entries_2 : decode cX7_entries 2 = .ok (.iconst 0, 1) := by decide +kernel
theorem dX7_entries_3 : decode cX7_entries 3 = .ok (.istore_n 2, 1) := by decide +kernel
theorem dX7_entries_4 : decode cX7_entries 4 = .ok (.iload_n 2, 1) := by decide +kernel
theorem dX7_entries_5 : decode cX7_entries 5 = .ok (.sipush 512, 3) := by decide +kernel
theorem dX7_entries_8 : decode cX7_entries 8 = .ok (.if_icmp .ge 26, 3) := by decide +kernel
theorem dX7_entries_11 : decode cX7_entries 11 = .ok (.iload_n 1, 1) := by decide +kernel
theorem dX7_entries_12 : decode cX7_entries 12 = .ok (.aload_n 0, 1) := by decide +kernel
theorem dX7_entries_13 : decode cX7_entries 13 = .ok (.getfield 38, 3) := by decide +kernel
theorem dX7_entries_16 : decode cX7_entries 16 = .ok (.iload_n 2, 1) := by decide +kernel
theorem dX7_entries_17 : decode cX7_entries 17 = .ok (.iaload, 1) := by decide +kernel
theorem dX7_entries_18 : decode cX7_entries 18 = .ok (.ifCond .le 7, 3) := by decide +kernel
theorem dX7_entries_21 : decode cX7_entries 21 = .ok (.iconst 1, 1) := by decide +kernel
theorem dX7_entries_22 : decode cX7_entries 22 = .ok (.goto 4, 3) := by decide +kernel
theorem dX7_entries_25 : decode cX7_entries 25 = .ok (.iconst 0, 1) := by decide +kernel
theorem dX7_entries_26 : decode cX7_entries 26 = .ok (.iadd, 1) := by decide +kernel
theorem dX7_entries_27 : decode cX7_entries 27 = .ok (.istore_n 1, 1) := by decide +kernel
theorem dX7_entries_28 : decode cX7_entries 28 = .ok (.iinc 2 1, 3) := by decide +kernel
theorem dX7_entries_31 : decode cX7_entries 31 = .ok (.goto (-27), 3) := by decide +kernel
theorem dX7_entries_34 : decode cX7_entries 34 = .ok (.iload_n 1, 1) := by decide +kernel
theorem dX7_entries_35 : decode cX7_entries 35 = .ok (.ireturn, 1) := by decide +kernel
set_option maxHeartbeats 4000000 in
set_option maxRecDepth 100000 in
theorem l_X7_entries {G : xG} {n a b : Nat} {Q : Outcome → xS → Prop} {J : xJ} {Z : xR} {T : xT} {R : xR} {I : xI} {N B : Nat} (hk : KS Z T N B) {i : Nat} (hi : i < N) (hq : Q (.returned (some (.int (nI (iEntries I i))))) (I, J, R, Z, T)) (k s : Nat) (hn : 1 ≤ n) :
    (k ≤ 512) → (s = cntN (fun s => ¬ I 41 i s ≤ 0) k) → X G mX7_entries n a b Q (I, J, R, Z, T) 4 [(1, .ref (T.ad 6 i)), (1, .int (nI s)), (1, .int (nI k))] [] := by
  induction hm : 512 - k using Nat.strongRecOn generalizing k s with
  | _ m_ ih =>
    intro h8 hs
    refine x_iload_n 5 dX7_entries_4 rfl rfl ?_
    refine x_sipush (v := 512) 8 dX7_entries_5 rfl rfl ?_
    refine x_icmp_ge 34 11 dX7_entries_8 (by decide) rfl (fun c8 => ?_) (fun c8 => ?_)
    · skip
      have c8 : 512 ≤ k := (nI_leI (a := 512) (b := k) (by omega) (by omega)).mp c8
      refine x_iload_n 35 dX7_entries_34 rfl rfl ?_
      refine x_ireturn dX7_entries_35 rfl ?_
      have e : k = 512 := by omega
      rw [hs, e]; exact hq
    · skip
      have c8 : ¬ (512 ≤ k) := fun h => c8 ((nI_leI (a := 512) (b := k) (by omega) (by omega)).mpr h)
      refine x_iload_n 12 dX7_entries_11 rfl rfl ?_
      refine x_aload_n 13 dX7_entries_12 rfl rfl ?_
      refine x_getz 16 dX7_entries_13 rfl fl_X7_38 (hk.l6 (by omega)) (hk.z6_27 (by omega)) ?_
      refine x_iload_n 17 dX7_entries_16 rfl rfl ?_
      refine x_iald 18 dX7_entries_17 rfl ar_41 (hk.l41 (by omega)) (xb (hk.n41 (by omega)) (by omega) (by omega)) ?_
      refine x_if_le 25 21 dX7_entries_18 (by decide) rfl (fun c18 => ?_) (fun c18 => ?_)
      · skip
        refine x_iconst (v := 0) 26 dX7_entries_25 rfl rfl ?_
        refine x_iaddn s 0 27 dX7_entries_26 rfl rfl rfl ?_
        refine x_istore_n 28 [(1, .ref (T.ad 6 i)), (1, .int (nI (s + 0))), (1, .int (nI k))] dX7_entries_27 rfl (by decide) rfl ?_
        refine x_iinc 31 [(1, .ref (T.ad 6 i)), (1, .int (nI (s + 0))), (1, .int (nI (k + 1)))] dX7_entries_28 rfl (by decide) rfl (xi_1 k) rfl ?_
        refine x_goto 4 dX7_entries_31 (by decide) ?_
        exact ih _ (by rw [← hm]; omega) (k + 1) (s + 0) rfl (by omega) (by rw [hs, cntN_f (P := (fun s => ¬ I 41 i s ≤ 0)) (by simpa using c18)]; rfl)
      · skip
        refine x_iconst (v := 1) 22 dX7_entries_21 rfl rfl ?_
        refine x_goto 26 dX7_entries_22 (by decide) ?_
        refine x_iaddn s 1 27 dX7_entries_26 rfl rfl rfl ?_
        refine x_istore_n 28 [(1, .ref (T.ad 6 i)), (1, .int (nI (s + 1))), (1, .int (nI k))] dX7_entries_27 rfl (by decide) rfl ?_
        refine x_iinc 31 [(1, .ref (T.ad 6 i)), (1, .int (nI (s + 1))), (1, .int (nI (k + 1)))] dX7_entries_28 rfl (by decide) rfl (xi_1 k) rfl ?_
        refine x_goto 4 dX7_entries_31 (by decide) ?_
        exact ih _ (by rw [← hm]; omega) (k + 1) (s + 1) rfl (by omega) (by rw [hs, cntN_t (P := (fun s => ¬ I 41 i s ≤ 0)) c18])
set_option maxHeartbeats 4000000 in
set_option maxRecDepth 100000 in
theorem c_X7_entries {G : xG} {n : Nat} {Q : Outcome → xS → Prop} {I : xI} {J : xJ} {R Z : xR} {T : xT} {N B : Nat} (hk : KS Z T N B) {i : Nat} (hi : i < N) (hn : 1 ≤ n) (hq : Q (.returned (some (.int (nI (iEntries I i))))) (I, J, R, Z, T)) : xCall G mX7_entries n [.ref (T.ad 6 i)] (I, J, R, Z, T) Q := by
  refine x_met (L0 := [(1, .ref (T.ad 6 i)), xo, xo]) (by decide +kernel) rfl ⟨Nat.le_of_ble_eq_true rfl, rfl⟩ ?_
  refine x_iconst (v := 0) 1 dX7_entries_0 rfl rfl ?_
  refine x_istore_n 2 [(1, .ref (T.ad 6 i)), (1, .int 0), xo] dX7_entries_1 rfl (by decide) rfl ?_
  refine x_iconst (v := 0) 3 dX7_entries_2 rfl rfl ?_
  refine x_istore_n 4 [(1, .ref (T.ad 6 i)), (1, .int 0), (1, .int 0)] dX7_entries_3 rfl (by decide) rfl ?_
  exact l_X7_entries hk hi hq 0 0 hn (by omega) rfl
theorem dX7_undoSlots_0 : decode cX7_undoSlots 0 = .ok (.iconst 0, 1) := by decide +kernel
theorem dX7_undoSlots_1 : decode cX7_undoSlots 1 = .ok (.istore_n 2, 1) := by decide +kernel
theorem dX7_undoSlots_2 : decode cX7_undoSlots 2 = .ok (.iload_n 2, 1) := by decide +kernel
theorem dX7_undoSlots_3 : decode cX7_undoSlots 3 = .ok (.sipush 512, 3) := by decide +kernel
theorem dX7_undoSlots_6 : decode cX7_undoSlots 6 = .ok (.if_icmp .ge 41, 3) := by decide +kernel
theorem dX7_undoSlots_9 : decode cX7_undoSlots 9 = .ok (.aload_n 0, 1) := by decide +kernel
theorem dX7_undoSlots_10 : decode cX7_undoSlots 10 = .ok (.getfield 41, 3) := by decide +kernel
theorem dX7_undoSlots_13 : decode cX7_undoSlots 13 = .ok (.iload_n 2, 1) := by decide +kernel
theorem dX7_undoSlots_14 : decode cX7_undoSlots 14 = .ok (.iaload, 1) := by decide +kernel
theorem dX7_undoSlots_15 : decode cX7_undoSlots 15 = .ok (.iload_n 1, 1) := by decide +kernel
theorem dX7_undoSlots_16 : decode cX7_undoSlots 16 = .ok (.if_icmp .eq 6, 3) := by decide +kernel
theorem dX7_undoSlots_19 : decode cX7_undoSlots 19 = .ok (.goto 22, 3) := by decide +kernel
theorem dX7_undoSlots_22 : decode cX7_undoSlots 22 = .ok (.aload_n 0, 1) := by decide +kernel
theorem dX7_undoSlots_23 : decode cX7_undoSlots 23 = .ok (.getfield 38, 3) := by decide +kernel
theorem dX7_undoSlots_26 : decode cX7_undoSlots 26 = .ok (.iload_n 2, 1) := by decide +kernel
theorem dX7_undoSlots_27 : decode cX7_undoSlots 27 = .ok (.aload_n 0, 1) := by decide +kernel
theorem dX7_undoSlots_28 : decode cX7_undoSlots 28 = .ok (.getfield 35, 3) := by decide +kernel
theorem dX7_undoSlots_31 : decode cX7_undoSlots 31 = .ok (.iload_n 2, 1) := by decide +kernel
theorem dX7_undoSlots_32 : decode cX7_undoSlots 32 = .ok (.iaload, 1) := by decide +kernel
theorem dX7_undoSlots_33 : decode cX7_undoSlots 33 = .ok (.iastore, 1) := by decide +kernel
theorem dX7_undoSlots_34 : decode cX7_undoSlots 34 = .ok (.aload_n 0, 1) := by decide +kernel
theorem dX7_undoSlots_35 : decode cX7_undoSlots 35 = .ok (.getfield 41, 3) := by decide +kernel
theorem dX7_undoSlots_38 : decode cX7_undoSlots 38 = .ok (.iload_n 2, 1) := by decide +kernel
theorem dX7_undoSlots_39 : decode cX7_undoSlots 39 = .ok (.iconst (-1), 1) := by decide +kernel
theorem dX7_undoSlots_40 : decode cX7_undoSlots 40 = .ok (.iastore, 1) := by decide +kernel
theorem dX7_undoSlots_41 : decode cX7_undoSlots 41 = .ok (.iinc 2 1, 3) := by decide +kernel
theorem dX7_undoSlots_44 : decode cX7_undoSlots 44 = .ok (.goto (-42), 3) := by decide +kernel
theorem dX7_undoSlots_47 : decode cX7_undoSlots 47 = .ok (.return_, 1) := by decide +kernel
set_option maxHeartbeats 4000000 in
set_option maxRecDepth 100000 in
theorem l_X7_undoSlots {G : xG} {n a b : Nat} {Q : Outcome → xS → Prop} {J : xJ} {Z : xR} {T : xT} {R : xR} {I0 : xI} {N B : Nat} (hk : KS Z T N B) {i : Nat} (hi : i < N) {w : Int32} (hq : Q (.returned none) (iUndoS I0 i w, J, R, Z, T)) (k : Nat) (I : xI) (hn : 1 ≤ n) :
    (k ≤ 512) → (I = xfil (xfil I0 41 i 0 k (fun s => if I0 42 i s = w then I0 40 i s else I0 41 i s)) 42 i 0 k (fun s => if I0 42 i s = w then -1 else I0 42 i s)) → X G mX7_undoSlots n a b Q (I, J, R, Z, T) 2 [(1, .ref (T.ad 6 i)), (1, .int w), (1, .int (nI k))] [] := by
  induction hm : 512 - k using Nat.strongRecOn generalizing k I with
  | _ m_ ih =>
    intro h8 hI
    refine x_iload_n 3 dX7_undoSlots_2 rfl rfl ?_
    refine x_sipush (v := 512) 6 dX7_undoSlots_3 rfl rfl ?_
    refine x_icmp_ge 47 9 dX7_undoSlots_6 (by decide) rfl (fun c6 => ?_) (fun c6 => ?_)
    · skip
      have c6 : 512 ≤ k := (nI_leI (a := 512) (b := k) (by omega) (by omega)).mp c6
      have e : k = 512 := by omega
      subst e
      refine x_eqI (I' := iUndoS I0 i w) (fun c j k hl hi2 => ?_) ?_
      · rw [hI]; unfold iUndoS
        by_cases e42 : c = 42 ∧ j = i
        · obtain ⟨e1_, e2_⟩ := e42; subst e1_; rw [e2_] at hi2 ⊢
          have hi3 : k < T.len 42 i := by simpa [xIn] using hi2
          rw [hk.n42 hi] at hi3
          rw [xur_eq, xfil_in (by omega)]
        rw [xur_n e42, xfil_n e42]
        by_cases e41 : c = 41 ∧ j = i
        · obtain ⟨e1_, e2_⟩ := e41; subst e1_; rw [e2_] at hi2 ⊢
          have hi3 : k < T.len 41 i := by simpa [xIn] using hi2
          rw [hk.n41 hi] at hi3
          rw [xur_eq, xfil_in (by omega)]
        rw [xur_n e41, xfil_n e41]
      refine x_vreturn dX7_undoSlots_47 rfl ?_
      exact hq
    · skip
      have c6 : ¬ (512 ≤ k) := fun h => c6 ((nI_leI (a := 512) (b := k) (by omega) (by omega)).mpr h)
      refine x_aload_n 10 dX7_undoSlots_9 rfl rfl ?_
      refine x_getz 13 dX7_undoSlots_10 rfl fl_X7_41 (hk.l6 (by omega)) (hk.z6_28 (by omega)) ?_
      refine x_iload_n 14 dX7_undoSlots_13 rfl rfl ?_
      refine x_iald 15 dX7_undoSlots_14 rfl ar_42 (hk.l42 (by omega)) (xb (hk.n42 (by omega)) (by omega) (by omega)) ?_
      refine x_iload_n 16 dX7_undoSlots_15 rfl rfl ?_
      refine x_icmp_eq 22 19 dX7_undoSlots_16 (by decide) rfl (fun c16 => ?_) (fun c16 => ?_)
      · skip
        refine x_aload_n 23 dX7_undoSlots_22 rfl rfl ?_
        refine x_getz 26 dX7_undoSlots_23 rfl fl_X7_38 (hk.l6 (by omega)) (hk.z6_27 (by omega)) ?_
        refine x_iload_n 27 dX7_undoSlots_26 rfl rfl ?_
        refine x_aload_n 28 dX7_undoSlots_27 rfl rfl ?_
        refine x_getz 31 dX7_undoSlots_28 rfl fl_X7_35 (hk.l6 (by omega)) (hk.z6_26 (by omega)) ?_
        refine x_iload_n 32 dX7_undoSlots_31 rfl rfl ?_
        refine x_iald 33 dX7_undoSlots_32 rfl ar_40 (hk.l40 (by omega)) (xb (hk.n40 (by omega)) (by omega) (by omega)) ?_
        refine x_iast 34 dX7_undoSlots_33 rfl ar_41 (by decide) (by decide) (hk.l41 (by omega)) (xb (hk.n41 (by omega)) (by omega) (by omega)) ?_
        refine x_nmI fun I1 hI1 => ?_
        refine x_aload_n 35 dX7_undoSlots_34 rfl rfl ?_
        refine x_getz 38 dX7_undoSlots_35 rfl fl_X7_41 (hk.l6 (by omega)) (hk.z6_28 (by omega)) ?_
        refine x_iload_n 39 dX7_undoSlots_38 rfl rfl ?_
        refine x_iconst (v := -1) 40 dX7_undoSlots_39 rfl rfl ?_
        refine x_iast 41 dX7_undoSlots_40 rfl ar_42 (by decide) (by decide) (hk.l42 (by omega)) (xb (hk.n42 (by omega)) (by omega) (by omega)) ?_
        refine x_nmI fun I2 hI2 => ?_
        refine x_iinc 44 [(1, .ref (T.ad 6 i)), (1, .int w), (1, .int (nI (k + 1)))] dX7_undoSlots_41 rfl (by decide) rfl (xi_1 k) rfl ?_
        refine x_goto 2 dX7_undoSlots_44 (by decide) ?_
        have e16 : I0 42 i k = w := by rw [hI, xfil_out (by omega), xfil_c (by decide)] at c16; exact c16
        exact ih _ (by rw [← hm]; omega) (k + 1) I2 rfl (by omega) (by rw [hI2, hI1, hI, xfil_c (by decide), xfil_c (by decide), xu_xfil (by decide), xfil_step (g := (fun s => if I0 42 i s = w then I0 40 i s else I0 41 i s)) (by omega) (if_pos e16), xfil_step (g := (fun s => if I0 42 i s = w then -1 else I0 42 i s)) (by omega) (if_pos e16)])
      · skip
        refine x_goto 41 dX7_undoSlots_19 (by decide) ?_
        refine x_iinc 44 [(1, .ref (T.ad 6 i)), (1, .int w), (1, .int (nI (k + 1)))] dX7_undoSlots_41 rfl (by decide) rfl (xi_1 k) rfl ?_
        refine x_goto 2 dX7_undoSlots_44 (by decide) ?_
        exact ih _ (by rw [← hm]; omega) (k + 1) I rfl (by omega) (by rw [hI, xfil_skip (f := xfil I0 41 i 0 k (fun s => if I0 42 i s = w then I0 40 i s else I0 41 i s)) (by rw [xfil_c (by decide)]; exact if_neg (by rw [hI, xfil_out (by omega), xfil_c (by decide)] at c16; exact c16)), xfil_skip (f := I0) (if_neg (by rw [hI, xfil_out (by omega), xfil_c (by decide)] at c16; exact c16))])
set_option maxHeartbeats 4000000 in
set_option maxRecDepth 100000 in
theorem c_X7_undoSlots {G : xG} {n : Nat} {Q : Outcome → xS → Prop} {I : xI} {J : xJ} {R Z : xR} {T : xT} {N B : Nat} (hk : KS Z T N B) {i : Nat} (hi : i < N) {w : Int32} (hn : 1 ≤ n) (hq : Q (.returned none) (iUndoS I i w, J, R, Z, T)) : xCall G mX7_undoSlots n [.ref (T.ad 6 i), .int w] (I, J, R, Z, T) Q := by
  refine x_met (L0 := [(1, .ref (T.ad 6 i)), (1, .int w), xo]) (by decide +kernel) rfl ⟨Nat.le_of_ble_eq_true rfl, rfl⟩ ?_
  refine x_iconst (v := 0) 1 dX7_undoSlots_0 rfl rfl ?_
  refine x_istore_n 2 [(1, .ref (T.ad 6 i)), (1, .int w), (1, .int 0)] dX7_undoSlots_1 rfl (by decide) rfl ?_
  exact l_X7_undoSlots hk hi hq 0 _ hn (by omega) (by rw [xfil_0, xfil_0])
theorem dX7_keepSlots_0 : decode cX7_keepSlots 0 = .ok (.iconst 0, 1) := by decide +kernel
theorem dX7_keepSlots_1 : decode cX7_keepSlots 1 = .ok (.istore_n 2, 1) := by decide +kernel
theorem dX7_keepSlots_2 : decode cX7_keepSlots 2 = .ok (.iload_n 2, 1) := by decide +kernel
theorem dX7_keepSlots_3 : decode cX7_keepSlots 3 = .ok (.sipush 512, 3) := by decide +kernel
theorem dX7_keepSlots_6 : decode cX7_keepSlots 6 = .ok (.if_icmp .ge 41, 3) := by decide +kernel
theorem dX7_keepSlots_9 : decode cX7_keepSlots 9 = .ok (.aload_n 0, 1) := by decide +kernel
theorem dX7_keepSlots_10 : decode cX7_keepSlots 10 = .ok (.getfield 41, 3) := by decide +kernel
theorem dX7_keepSlots_13 : decode cX7_keepSlots 13 = .ok (.iload_n 2, 1) := by decide +kernel
theorem dX7_keepSlots_14 : decode cX7_keepSlots 14 = .ok (.iaload, 1) := by decide +kernel
theorem dX7_keepSlots_15 : decode cX7_keepSlots 15 = .ok (.iload_n 1, 1) := by decide +kernel
theorem dX7_keepSlots_16 : decode cX7_keepSlots 16 = .ok (.if_icmp .eq 6, 3) := by decide +kernel
theorem dX7_keepSlots_19 : decode cX7_keepSlots 19 = .ok (.goto 22, 3) := by decide +kernel
theorem dX7_keepSlots_22 : decode cX7_keepSlots 22 = .ok (.aload_n 0, 1) := by decide +kernel
theorem dX7_keepSlots_23 : decode cX7_keepSlots 23 = .ok (.getfield 35, 3) := by decide +kernel
theorem dX7_keepSlots_26 : decode cX7_keepSlots 26 = .ok (.iload_n 2, 1) := by decide +kernel
theorem dX7_keepSlots_27 : decode cX7_keepSlots 27 = .ok (.aload_n 0, 1) := by decide +kernel
theorem dX7_keepSlots_28 : decode cX7_keepSlots 28 = .ok (.getfield 38, 3) := by decide +kernel
theorem dX7_keepSlots_31 : decode cX7_keepSlots 31 = .ok (.iload_n 2, 1) := by decide +kernel
theorem dX7_keepSlots_32 : decode cX7_keepSlots 32 = .ok (.iaload, 1) := by decide +kernel
theorem dX7_keepSlots_33 : decode cX7_keepSlots 33 = .ok (.iastore, 1) := by decide +kernel
theorem dX7_keepSlots_34 : decode cX7_keepSlots 34 = .ok (.aload_n 0, 1) := by decide +kernel
theorem dX7_keepSlots_35 : decode cX7_keepSlots 35 = .ok (.getfield 41, 3) := by decide +kernel
theorem dX7_keepSlots_38 : decode cX7_keepSlots 38 = .ok (.iload_n 2, 1) := by decide +kernel
theorem dX7_keepSlots_39 : decode cX7_keepSlots 39 = .ok (.iconst (-1), 1) := by decide +kernel
theorem dX7_keepSlots_40 : decode cX7_keepSlots 40 = .ok (.iastore, 1) := by decide +kernel
theorem dX7_keepSlots_41 : decode cX7_keepSlots 41 = .ok (.iinc 2 1, 3) := by decide +kernel
theorem dX7_keepSlots_44 : decode cX7_keepSlots 44 = .ok (.goto (-42), 3) := by decide +kernel
theorem dX7_keepSlots_47 : decode cX7_keepSlots 47 = .ok (.return_, 1) := by decide +kernel
set_option maxHeartbeats 4000000 in
set_option maxRecDepth 100000 in
theorem l_X7_keepSlots {G : xG} {n a b : Nat} {Q : Outcome → xS → Prop} {J : xJ} {Z : xR} {T : xT} {R : xR} {I0 : xI} {N B : Nat} (hk : KS Z T N B) {i : Nat} (hi : i < N) {w : Int32} (hq : Q (.returned none) (iKeepS I0 i w, J, R, Z, T)) (k : Nat) (I : xI) (hn : 1 ≤ n) :
    (k ≤ 512) → (I = xfil (xfil I0 40 i 0 k (fun s => if I0 42 i s = w then I0 41 i s else I0 40 i s)) 42 i 0 k (fun s => if I0 42 i s = w then -1 else I0 42 i s)) → X G mX7_keepSlots n a b Q (I, J, R, Z, T) 2 [(1, .ref (T.ad 6 i)), (1, .int w), (1, .int (nI k))] [] := by
  induction hm : 512 - k using Nat.strongRecOn generalizing k I with
  | _ m_ ih =>
    intro h8 hI
    refine x_iload_n 3 dX7_keepSlots_2 rfl rfl ?_
    refine x_sipush (v := 512) 6 dX7_keepSlots_3 rfl rfl ?_
    refine x_icmp_ge 47 9 dX7_keepSlots_6 (by decide) rfl (fun c6 => ?_) (fun c6 => ?_)
    · skip
      have c6 : 512 ≤ k := (nI_leI (a := 512) (b := k) (by omega) (by omega)).mp c6
      have e : k = 512 := by omega
      subst e
      refine x_eqI (I' := iKeepS I0 i w) (fun c j k hl hi2 => ?_) ?_
      · rw [hI]; unfold iKeepS
        by_cases e42 : c = 42 ∧ j = i
        · obtain ⟨e1_, e2_⟩ := e42; subst e1_; rw [e2_] at hi2 ⊢
          have hi3 : k < T.len 42 i := by simpa [xIn] using hi2
          rw [hk.n42 hi] at hi3
          rw [xur_eq, xfil_in (by omega)]
        rw [xur_n e42, xfil_n e42]
        by_cases e40 : c = 40 ∧ j = i
        · obtain ⟨e1_, e2_⟩ := e40; subst e1_; rw [e2_] at hi2 ⊢
          have hi3 : k < T.len 40 i := by simpa [xIn] using hi2
          rw [hk.n40 hi] at hi3
          rw [xur_eq, xfil_in (by omega)]
        rw [xur_n e40, xfil_n e40]
      refine x_vreturn dX7_keepSlots_47 rfl ?_
      exact hq
    · skip
      have c6 : ¬ (512 ≤ k) := fun h => c6 ((nI_leI (a := 512) (b := k) (by omega) (by omega)).mpr h)
      refine x_aload_n 10 dX7_keepSlots_9 rfl rfl ?_
      refine x_getz 13 dX7_keepSlots_10 rfl fl_X7_41 (hk.l6 (by omega)) (hk.z6_28 (by omega)) ?_
      refine x_iload_n 14 dX7_keepSlots_13 rfl rfl ?_
      refine x_iald 15 dX7_keepSlots_14 rfl ar_42 (hk.l42 (by omega)) (xb (hk.n42 (by omega)) (by omega) (by omega)) ?_
      refine x_iload_n 16 dX7_keepSlots_15 rfl rfl ?_
      refine x_icmp_eq 22 19 dX7_keepSlots_16 (by decide) rfl (fun c16 => ?_) (fun c16 => ?_)
      · skip
        refine x_aload_n 23 dX7_keepSlots_22 rfl rfl ?_
        refine x_getz 26 dX7_keepSlots_23 rfl fl_X7_35 (hk.l6 (by omega)) (hk.z6_26 (by omega)) ?_
        refine x_iload_n 27 dX7_keepSlots_26 rfl rfl ?_
        refine x_aload_n 28 dX7_keepSlots_27 rfl rfl ?_
        refine x_getz 31 dX7_keepSlots_28 rfl fl_X7_38 (hk.l6 (by omega)) (hk.z6_27 (by omega)) ?_
        refine x_iload_n 32 dX7_keepSlots_31 rfl rfl ?_
        refine x_iald 33 dX7_keepSlots_32 rfl ar_41 (hk.l41 (by omega)) (xb (hk.n41 (by omega)) (by omega) (by omega)) ?_
        refine x_iast 34 dX7_keepSlots_33 rfl ar_40 (by decide) (by decide) (hk.l40 (by omega)) (xb (hk.n40 (by omega)) (by omega) (by omega)) ?_
        refine x_nmI fun I1 hI1 => ?_
        refine x_aload_n 35 dX7_keepSlots_34 rfl rfl ?_
        refine x_getz 38 dX7_keepSlots_35 rfl fl_X7_41 (hk.l6 (by omega)) (hk.z6_28 (by omega)) ?_
        refine x_iload_n 39 dX7_keepSlots_38 rfl rfl ?_
        refine x_iconst (v := -1) 40 dX7_keepSlots_39 rfl rfl ?_
        refine x_iast 41 dX7_keepSlots_40 rfl ar_42 (by decide) (by decide) (hk.l42 (by omega)) (xb (hk.n42 (by omega)) (by omega) (by omega)) ?_
        refine x_nmI fun I2 hI2 => ?_
        refine x_iinc 44 [(1, .ref (T.ad 6 i)), (1, .int w), (1, .int (nI (k + 1)))] dX7_keepSlots_41 rfl (by decide) rfl (xi_1 k) rfl ?_
        refine x_goto 2 dX7_keepSlots_44 (by decide) ?_
        have e16 : I0 42 i k = w := by rw [hI, xfil_out (by omega), xfil_c (by decide)] at c16; exact c16
        exact ih _ (by rw [← hm]; omega) (k + 1) I2 rfl (by omega) (by rw [hI2, hI1, hI, xfil_c (by decide), xfil_c (by decide), xu_xfil (by decide), xfil_step (g := (fun s => if I0 42 i s = w then I0 41 i s else I0 40 i s)) (by omega) (if_pos e16), xfil_step (g := (fun s => if I0 42 i s = w then -1 else I0 42 i s)) (by omega) (if_pos e16)])
      · skip
        refine x_goto 41 dX7_keepSlots_19 (by decide) ?_
        refine x_iinc 44 [(1, .ref (T.ad 6 i)), (1, .int w), (1, .int (nI (k + 1)))] dX7_keepSlots_41 rfl (by decide) rfl (xi_1 k) rfl ?_
        refine x_goto 2 dX7_keepSlots_44 (by decide) ?_
        exact ih _ (by rw [← hm]; omega) (k + 1) I rfl (by omega) (by rw [hI, xfil_skip (f := xfil I0 40 i 0 k (fun s => if I0 42 i s = w then I0 41 i s else I0 40 i s)) (by rw [xfil_c (by decide)]; exact if_neg (by rw [hI, xfil_out (by omega), xfil_c (by decide)] at c16; exact c16)), xfil_skip (f := I0) (if_neg (by rw [hI, xfil_out (by omega), xfil_c (by decide)] at c16; exact c16))])
set_option maxHeartbeats 4000000 in
set_option maxRecDepth 100000 in
theorem c_X7_keepSlots {G : xG} {n : Nat} {Q : Outcome → xS → Prop} {I : xI} {J : xJ} {R Z : xR} {T : xT} {N B : Nat} (hk : KS Z T N B) {i : Nat} (hi : i < N) {w : Int32} (hn : 1 ≤ n) (hq : Q (.returned none) (iKeepS I i w, J, R, Z, T)) : xCall G mX7_keepSlots n [.ref (T.ad 6 i), .int w] (I, J, R, Z, T) Q := by
  refine x_met (L0 := [(1, .ref (T.ad 6 i)), (1, .int w), xo]) (by decide +kernel) rfl ⟨Nat.le_of_ble_eq_true rfl, rfl⟩ ?_
  refine x_iconst (v := 0) 1 dX7_keepSlots_0 rfl rfl ?_
  refine x_istore_n 2 [(1, .ref (T.ad 6 i)), (1, .int w), (1, .int 0)] dX7_keepSlots_1 rfl (by decide) rfl ?_
  exact l_X7_keepSlots hk hi hq 0 _ hn (by omega) (by rw [xfil_0, xfil_0])
theorem dX7_name_0 : decode cX7_name 0 = .ok (.iconst 0, 1) := by decide +kernel
theorem dX7_name_1 : decode cX7_name 1 = .ok (.istore 5, 2) := by decide +kernel
theorem dX7_name_3 : decode cX7_name 3 = .ok (.iload 5, 2) := by decide +kernel
theorem dX7_name_5 : decode cX7_name 5 = .ok (.bipush 14, 2) := by decide +kernel
theorem dX7_name_7 : decode cX7_name 7 = .ok (.if_icmp .ge 38, 3) := by decide +kernel
theorem dX7_name_10 : decode cX7_name 10 = .ok (.aload_n 0, 1) := by decide +kernel
theorem dX7_name_11 : decode cX7_name 11 = .ok (.getfield 44, 3) := by decide +kernel
theorem dX7_name_14 : decode cX7_name 14 = .ok (.bipush 14, 2) := by decide +kernel
theorem dX7_name_16 : decode cX7_name 16 = .ok (.iload_n 1, 1) := by decide +kernel
theorem dX7_name_17 : decode cX7_name 17 = .ok (.imul, 1) := by decide +kernel
theorem dX7_name_18 : decode cX7_name 18 = .ok (.iload 5, 2) := by decide +kernel
theorem dX7_name_20 : decode cX7_name 20 = .ok (.iadd, 1) := by decide +kernel
theorem dX7_name_21 : decode cX7_name 21 = .ok (.iload 5, 2) := by decide +kernel
theorem dX7_name_23 : decode cX7_name 23 = .ok (.iload 4, 2) := by decide +kernel
theorem dX7_name_25 : decode cX7_name 25 = .ok (.if_icmp .ge 12, 3) := by decide +kernel
theorem dX7_name_28 : decode cX7_name 28 = .ok (.aload_n 2, 1) := by decide +kernel
theorem dX7_name_29 : decode cX7_name 29 = .ok (.iload_n 3, 1) := by decide +kernel
theorem dX7_name_30 : decode cX7_name 30 = .ok (.iload 5, 2) := by decide +kernel
theorem dX7_name_32 : decode cX7_name 32 = .ok (.iadd, 1) := by decide +kernel
theorem dX7_name_33 : decode cX7_name 33 = .ok (.baload, 1) := by decide +kernel
theorem dX7_name_34 : decode cX7_name 34 = .ok (.goto 4, 3) := by decide +kernel
theorem dX7_name_37 : decode cX7_name 37 = .ok (.iconst 0, 1) := by decide +kernel
theorem dX7_name_38 : decode cX7_name 38 = .ok (.bastore, 1) := by decide +kernel
theorem dX7_name_39 : decode cX7_name 39 = .ok (.iinc 5 1, 3) := by decide +kernel
theorem dX7_name_42 : decode cX7_name 42 = .ok (.goto (-39), 3) := by decide +kernel
theorem dX7_name_45 : decode cX7_name 45 = .ok (.return_, 1) := by decide +kernel
set_option maxHeartbeats 4000000 in
set_option maxRecDepth 100000 in
theorem l_X7_name {G : xG} {n a b : Nat} {Q : Outcome → xS → Prop} {J : xJ} {Z : xR} {T : xT} {R : xR} {I0 : xI} {N B : Nat} (hk : KS Z T N B) {i : Nat} (hi : i < N) {c j tg : Nat} (har : xAr c .byte 0 tg) (hlv : T.lv c j) (hc43 : c ≠ 43) (hb8 : xta c = 2) {s t m : Nat} (hs : s < 512) (ht : t + m ≤ T.len c j ∧ t + m < 1000000) (hq : Q (.returned none) (iName I0 i s (I0 c j) t m, J, R, Z, T)) (k : Nat) (I : xI) (hn : 1 ≤ n) :
    (k ≤ 14) → (I = xfil I0 43 i (14 * s) (14 * s + k) (fun q => if q - 14 * s < m then I0 c j (t + (q - 14 * s)) else 0)) → X G mX7_name n a b Q (I, J, R, Z, T) 3 [(1, .ref (T.ad 6 i)), (1, .int (nI s)), (1, .ref (T.ad c j)), (1, .int (nI t)), (1, .int (nI m)), (1, .int (nI k))] [] := by
  induction hm : 14 - k using Nat.strongRecOn generalizing k I with
  | _ m_ ih =>
    intro h8 hI
    refine x_iload 5 dX7_name_3 rfl rfl ?_
    refine x_bipush (v := 14) 7 dX7_name_5 rfl rfl ?_
    refine x_icmp_ge 45 10 dX7_name_7 (by decide) rfl (fun c7 => ?_) (fun c7 => ?_)
    · skip
      have c7 : 14 ≤ k := (nI_leI (a := 14) (b := k) (by omega) (by omega)).mp c7
      refine x_vreturn dX7_name_45 rfl ?_
      have e : k = 14 := by omega
      subst e
      rw [hI]; exact hq
    · skip
      have c7 : ¬ (14 ≤ k) := fun h => c7 ((nI_leI (a := 14) (b := k) (by omega) (by omega)).mpr h)
      refine x_aload_n 11 dX7_name_10 rfl rfl ?_
      refine x_getz 14 dX7_name_11 rfl fl_X7_44 (hk.l6 hi) (hk.z6_29 (by omega)) ?_
      refine x_bipush (v := 14) 16 dX7_name_14 rfl rfl ?_
      refine x_iload_n 17 dX7_name_16 rfl rfl ?_
      refine x_imuln 14 s 18 dX7_name_17 rfl rfl rfl ?_
      refine x_iload 20 dX7_name_18 rfl rfl ?_
      refine x_iaddn (14 * s) k 21 dX7_name_20 rfl rfl rfl ?_
      refine x_iload 23 dX7_name_21 rfl rfl ?_
      refine x_iload 25 dX7_name_23 rfl rfl ?_
      refine x_icmp_ge 37 28 dX7_name_25 (by decide) rfl (fun c25 => ?_) (fun c25 => ?_)
      · skip
        have c25 : m ≤ k := (nI_leI (a := m) (b := k) (by omega) (by omega)).mp c25
        refine x_iconst (v := 0) 38 dX7_name_37 rfl rfl ?_
        refine x_bast 39 dX7_name_38 rfl ar_43 (by decide) (by decide) (hk.l43 hi) (xb (hk.n43 (by omega)) (by omega) (by omega)) ?_
        refine x_nmI fun I1 hI1 => ?_
        refine x_iinc 42 [(1, .ref (T.ad 6 i)), (1, .int (nI s)), (1, .ref (T.ad c j)), (1, .int (nI t)), (1, .int (nI m)), (1, .int (nI (k + 1)))] dX7_name_39 rfl (by decide) rfl (xi_1 k) rfl ?_
        refine x_goto 3 dX7_name_42 (by decide) ?_
        exact ih _ (by rw [← hm]; omega) (k + 1) I1 rfl (by omega) (by rw [hI1, hI, show 14 * s + (k + 1) = 14 * s + k + 1 by omega]; refine xfil_step (by omega) ?_; simp only [show 14 * s + k - 14 * s = k by omega]; first | (rw [if_pos (by omega), ← hI, x_b8 hb, hI, xfil_c hc43]) | (rw [if_neg (by omega)]; rfl))
      · skip
        have c25 : ¬ (m ≤ k) := fun h => c25 ((nI_leI (a := m) (b := k) (by omega) (by omega)).mpr h)
        refine x_wf fun hw => ?_
        have hb : fits .byte (.int (I c j (t + k))) = true := (hw.2.2 c j (t + k) hlv har.1 (by show t + k < T.len c j; omega)).1 hb8
        refine x_aload_n 29 dX7_name_28 rfl rfl ?_
        refine x_iload_n 30 dX7_name_29 rfl rfl ?_
        refine x_iload 32 dX7_name_30 rfl rfl ?_
        refine x_iaddn t k 33 dX7_name_32 rfl rfl rfl ?_
        refine x_bald 34 dX7_name_33 rfl har hlv ⟨by omega, by omega⟩ ?_
        refine x_goto 38 dX7_name_34 (by decide) ?_
        refine x_bast 39 dX7_name_38 rfl ar_43 (by decide) (by decide) (hk.l43 hi) (xb (hk.n43 (by omega)) (by omega) (by omega)) ?_
        refine x_nmI fun I2 hI2 => ?_
        refine x_iinc 42 [(1, .ref (T.ad 6 i)), (1, .int (nI s)), (1, .ref (T.ad c j)), (1, .int (nI t)), (1, .int (nI m)), (1, .int (nI (k + 1)))] dX7_name_39 rfl (by decide) rfl (xi_1 k) rfl ?_
        refine x_goto 3 dX7_name_42 (by decide) ?_
        exact ih _ (by rw [← hm]; omega) (k + 1) I2 rfl (by omega) (by rw [hI2, hI, show 14 * s + (k + 1) = 14 * s + k + 1 by omega]; refine xfil_step (by omega) ?_; simp only [show 14 * s + k - 14 * s = k by omega]; first | (rw [if_pos (by omega), ← hI, x_b8 hb, hI, xfil_c hc43]) | (rw [if_neg (by omega)]; rfl))
set_option maxHeartbeats 4000000 in
set_option maxRecDepth 100000 in
theorem c_X7_name {G : xG} {n : Nat} {Q : Outcome → xS → Prop} {I : xI} {J : xJ} {R Z : xR} {T : xT} {N B : Nat} (hk : KS Z T N B) {i : Nat} (hi : i < N) {c j tg : Nat} (har : xAr c .byte 0 tg) (hlv : T.lv c j) (hc43 : c ≠ 43) (hb8 : xta c = 2) {s t m : Nat} (hs : s < 512) (ht : t + m ≤ T.len c j ∧ t + m < 1000000) (hn : 1 ≤ n) (hq : Q (.returned none) (iName I i s (I c j) t m, J, R, Z, T)) : xCall G mX7_name n [.ref (T.ad 6 i), .int (nI s), .ref (T.ad c j), .int (nI t), .int (nI m)] (I, J, R, Z, T) Q := by
  refine x_met (L0 := [(1, .ref (T.ad 6 i)), (1, .int (nI s)), (1, .ref (T.ad c j)), (1, .int (nI t)), (1, .int (nI m)), xo]) (by decide +kernel) rfl ⟨Nat.le_of_ble_eq_true rfl, rfl⟩ ?_
  refine x_iconst (v := 0) 1 dX7_name_0 rfl rfl ?_
  refine x_istore 3 [(1, .ref (T.ad 6 i)), (1, .int (nI s)), (1, .ref (T.ad c j)), (1, .int (nI t)), (1, .int (nI m)), (1, .int 0)] dX7_name_1 rfl (by decide) rfl ?_
  exact l_X7_name hk hi har hlv hc43 hb8 hs ht hq 0 _ hn (by omega) (xfil_0 _ _ _ _ _).symm
