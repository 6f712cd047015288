set_option maxRecDepth 100000
def by8 (x : Int32) : Int32 := x.toInt8.toInt32
theorem by8_by8 (x : Int32) : (x.toInt8.toInt32).toInt8.toInt32 = x.toInt8.toInt32 := by
  have : (x.toInt8.toInt32).toInt8 = x.toInt8 := Int8.toInt8_toInt32 x.toInt8
  rw [this]
def num16 (f : Nat → Int32) (at_ : Nat) : Int32 := ((f at_ &&& 255) <<< ((8 : Int32) &&& 31)) ||| (f (at_ + 1) &&& 255)
/-! Opening, Pipe -/
def oPipe (R : xR) (o : Nat) : Prop := R 7 o 0 = none
theorem dX8_isPipe_0 : decode cX8_isPipe 0 = .ok (.aload_n 0, 1) := by decide +kernel
theorem dX8_isPipe_1 : decode cX8_isPipe 1 = .ok (.getfield 7, 3) := by decide +kernel
theorem dX8_isPipe_4 : decode cX8_isPipe 4 = .ok (.ifnonnull 7, 3) := by decide +kernel
theorem dX8_isPipe_7 : decode cX8_isPipe 7 = .ok (.iconst 1, 1) := by decide +kernel
theorem dX8_isPipe_8 : decode cX8_isPipe 8 = .ok (.goto 4, 3) := by decide +kernel
theorem dX8_isPipe_11 : decode cX8_isPipe 11 = .ok (.iconst 0, 1) := by decide +kernel
theorem dX8_isPipe_12 : decode cX8_isPipe 12 = .ok (.ireturn, 1) := by decide +kernel
set_option maxHeartbeats 4000000 in
set_option maxRecDepth 100000 in
theorem c_X8_isPipe {G : xG} {n : Nat} {Q : Outcome → xS → Prop} {I : xI} {J : xJ} {R Z : xR} {T : xT} {N B : Nat} (hk : KS Z T N B) {o : Nat} (ho : o < 384) (hn : 1 ≤ n) (hq : Q (.returned (some (.int (b2i (oPipe R o))))) (I, J, R, Z, T)) : xCall G mX8_isPipe n [.ref (T.ad 7 o)] (I, J, R, Z, T) Q := by
  refine x_met (L0 := [(1, .ref (T.ad 7 o))]) (by decide +kernel) rfl ⟨Nat.le_of_ble_eq_true rfl, rfl⟩ ?_
  refine x_aload_n 1 dX8_isPipe_0 rfl rfl ?_
  refine x_getr 4 dX8_isPipe_1 rfl fl_X8_7 (hk.l7 (by omega)) ?_
  refine x_ifnonnull 11 7 dX8_isPipe_4 (by decide) rfl (fun j1 c4 => ?_) (fun c4 => ?_)
  · skip
    refine x_iconst (v := 0) 12 dX8_isPipe_11 rfl rfl ?_
    refine x_zreturn dX8_isPipe_12 rfl (Or.inl rfl) ?_
    exact xr0 (P := oPipe R o) (by unfold oPipe; rw [c4]; simp) hq
  · skip
    refine x_iconst (v := 1) 8 dX8_isPipe_7 rfl rfl ?_
    refine x_goto 12 dX8_isPipe_8 (by decide) ?_
    refine x_zreturn dX8_isPipe_12 rfl (Or.inr rfl) ?_
    exact xr1 (P := oPipe R o) (c4) hq
theorem dX9_save_0 : decode cX9_save 0 = .ok (.aload_n 0, 1) := by decide +kernel
theorem dX9_save_1 : decode cX9_save 1 = .ok (.getfield 9, 3) := by decide +kernel
theorem dX9_save_4 : decode cX9_save 4 = .ok (.iconst 0, 1) := by decide +kernel
theorem dX9_save_5 : decode cX9_save 5 = .ok (.aload_n 0, 1) := by decide +kernel
theorem dX9_save_6 : decode cX9_save 6 = .ok (.getfield 15, 3) := by decide +kernel
theorem dX9_save_9 : decode cX9_save 9 = .ok (.iconst 0, 1) := by decide +kernel
theorem dX9_save_10 : decode cX9_save 10 = .ok (.aload_n 0, 1) := by decide +kernel
theorem dX9_save_11 : decode cX9_save 11 = .ok (.getfield 18, 3) := by decide +kernel
theorem dX9_save_14 : decode cX9_save 14 = .ok (.invokestatic 22, 3) := by decide +kernel
theorem dX9_save_17 : decode cX9_save 17 = .ok (.aload_n 0, 1) := by decide +kernel
theorem dX9_save_18 : decode cX9_save 18 = .ok (.aload_n 0, 1) := by decide +kernel
theorem dX9_save_19 : decode cX9_save 19 = .ok (.getfield 18, 3) := by decide +kernel
theorem dX9_save_22 : decode cX9_save 22 = .ok (.putfield 28, 3) := by decide +kernel
theorem dX9_save_25 : decode cX9_save 25 = .ok (.return_, 1) := by decide +kernel
set_option maxHeartbeats 4000000 in
set_option maxRecDepth 100000 in
theorem c_X9_save {G : xG} {n : Nat} {Q : Outcome → xS → Prop} {I : xI} {J : xJ} {R Z : xR} {T : xT} {N B : Nat} (hk : KS Z T N B) {p s : Nat} (hp : p < 8) (hs : I 8 p 1 = nI s) (h64 : s ≤ 64) (hn : 1 ≤ n) (hq : Q (.returned none) (xu (xur I 45 p (va_cpy (I 44 p) (I 45 p) 0 0 s)) 8 p 3 (nI s), J, R, Z, T)) : xCall G mX9_save n [.ref (T.ad 8 p)] (I, J, R, Z, T) Q := by
  refine x_met (L0 := [(1, .ref (T.ad 8 p))]) (by decide +kernel) rfl ⟨Nat.le_of_ble_eq_true rfl, rfl⟩ ?_
  refine x_aload_n 1 dX9_save_0 rfl rfl ?_
  refine x_getz 4 dX9_save_1 rfl fl_X9_9 (hk.l8 (by omega)) (hk.z8_0 (by omega)) ?_
  refine x_iconst (v := 0) 5 dX9_save_4 rfl rfl ?_
  refine x_aload_n 6 dX9_save_5 rfl rfl ?_
  refine x_getz 9 dX9_save_6 rfl fl_X9_15 (hk.l8 (by omega)) (hk.z8_2 (by omega)) ?_
  refine x_iconst (v := 0) 10 dX9_save_9 rfl rfl ?_
  refine x_aload_n 11 dX9_save_10 rfl rfl ?_
  refine x_geti 14 dX9_save_11 rfl fl_X9_18 (hk.l8 (by omega)) ?_
  refine x_vi (w := nI s) hs ?_
  refine x_copyi (sp := 0) (dp := 0) (m := s) 17 dX9_save_14 rfl cp_X9_22 ar_44 ar_45 (Or.inr ⟨rfl, by decide, by decide⟩) ⟨by decide, fun h => by cases h⟩ (hk.l44 (by omega)) (hk.l45 (by omega)) (by decide) (by omega) (xst (Nat.le_of_ble_eq_true rfl)) ⟨by omega, by omega, by omega⟩ (by rw [(hk.n44 (by omega))]; omega) (by rw [(hk.n45 (by omega))]; omega) ?_
  refine x_nmI fun I1 hI1 => ?_
  refine x_aload_n 18 dX9_save_17 rfl rfl ?_
  refine x_aload_n 19 dX9_save_18 rfl rfl ?_
  refine x_geti 22 dX9_save_19 rfl fl_X9_18 (hk.l8 (by omega)) ?_
  refine x_vi (w := nI s) (by rw [hI1, xur_c (by decide)]; exact hs) ?_
  refine x_puti 25 dX9_save_22 rfl fl_X9_28 rfl rfl (hk.l8 (by omega)) ?_
  refine x_nmI fun I2 hI2 => ?_
  refine x_vreturn dX9_save_25 rfl ?_
  rw [hI2, hI1]; exact hq
theorem dX9_undo_0 : decode cX9_undo 0 = .ok (.aload_n 0, 1) := by decide +kernel
theorem dX9_undo_1 : decode cX9_undo 1 = .ok (.getfield 15, 3) := by decide +kernel
theorem dX9_undo_4 : decode cX9_undo 4 = .ok (.iconst 0, 1) := by decide +kernel
theorem dX9_undo_5 : decode cX9_undo 5 = .ok (.aload_n 0, 1) := by decide +kernel
theorem dX9_undo_6 : decode cX9_undo 6 = .ok (.getfield 9, 3) := by decide +kernel
theorem dX9_undo_9 : decode cX9_undo 9 = .ok (.iconst 0, 1) := by decide +kernel
theorem dX9_undo_10 : decode cX9_undo 10 = .ok (.aload_n 0, 1) := by decide +kernel
theorem dX9_undo_11 : decode cX9_undo 11 = .ok (.getfield 28, 3) := by decide +kernel
theorem dX9_undo_14 : decode cX9_undo 14 = .ok (.invokestatic 22, 3) := by decide +kernel
theorem dX9_undo_17 : decode cX9_undo 17 = .ok (.aload_n 0, 1) := by decide +kernel
theorem dX9_undo_18 : decode cX9_undo 18 = .ok (.aload_n 0, 1) := by decide +kernel
theorem dX9_undo_19 : decode cX9_undo 19 = .ok (.getfield 28, 3) := by decide +kernel
theorem dX9_undo_22 : decode cX9_undo 22 = .ok (.putfield 18, 3) := by decide +kernel
theorem dX9_undo_25 : decode cX9_undo 25 = .ok (.return_, 1) := by decide +kernel
set_option maxHeartbeats 4000000 in
set_option maxRecDepth 100000 in
theorem c_X9_undo {G : xG} {n : Nat} {Q : Outcome → xS → Prop} {I : xI} {J : xJ} {R Z : xR} {T : xT} {N B : Nat} (hk : KS Z T N B) {p s : Nat} (hp : p < 8) (hs : I 8 p 3 = nI s) (h64 : s ≤ 64) (hn : 1 ≤ n) (hq : Q (.returned none) (xu (xur I 44 p (va_cpy (I 45 p) (I 44 p) 0 0 s)) 8 p 1 (nI s), J, R, Z, T)) : xCall G mX9_undo n [.ref (T.ad 8 p)] (I, J, R, Z, T) Q := by
  refine x_met (L0 := [(1, .ref (T.ad 8 p))]) (by decide +kernel) rfl ⟨Nat.le_of_ble_eq_true rfl, rfl⟩ ?_
  refine x_aload_n 1 dX9_undo_0 rfl rfl ?_
  refine x_getz 4 dX9_undo_1 rfl fl_X9_15 (hk.l8 (by omega)) (hk.z8_2 (by omega)) ?_
  refine x_iconst (v := 0) 5 dX9_undo_4 rfl rfl ?_
  refine x_aload_n 6 dX9_undo_5 rfl rfl ?_
  refine x_getz 9 dX9_undo_6 rfl fl_X9_9 (hk.l8 (by omega)) (hk.z8_0 (by omega)) ?_
  refine x_iconst (v := 0) 10 dX9_undo_9 rfl rfl ?_
  refine x_aload_n 11 dX9_undo_10 rfl rfl ?_
  refine x_geti 14 dX9_undo_11 rfl fl_X9_28 (hk.l8 (by omega)) ?_
  refine x_vi (w := nI s) hs ?_
  refine x_copyi (sp := 0) (dp := 0) (m := s) 17 dX9_undo_14 rfl cp_X9_22 ar_45 ar_44 (Or.inr ⟨rfl, by decide, by decide⟩) ⟨by decide, fun h => by cases h⟩ (hk.l45 (by omega)) (hk.l44 (by omega)) (by decide) (by omega) (xst (Nat.le_of_ble_eq_true rfl)) ⟨by omega, by omega, by omega⟩ (by rw [(hk.n45 (by omega))]; omega) (by rw [(hk.n44 (by omega))]; omega) ?_
  refine x_nmI fun I1 hI1 => ?_
  refine x_aload_n 18 dX9_undo_17 rfl rfl ?_
  refine x_aload_n 19 dX9_undo_18 rfl rfl ?_
  refine x_geti 22 dX9_undo_19 rfl fl_X9_28 (hk.l8 (by omega)) ?_
  refine x_vi (w := nI s) (by rw [hI1, xur_c (by decide)]; exact hs) ?_
  refine x_puti 25 dX9_undo_22 rfl fl_X9_18 rfl rfl (hk.l8 (by omega)) ?_
  refine x_nmI fun I2 hI2 => ?_
  refine x_vreturn dX9_undo_25 rfl ?_
  rw [hI2, hI1]; exact hq
theorem dX9_take_0 : decode cX9_take 0 = .ok (.iload_n 1, 1) := by decide +kernel
theorem dX9_take_1 : decode cX9_take 1 = .ok (.istore_n 2, 1) := by decide +kernel
theorem dX9_take_2 : decode cX9_take 2 = .ok (.iload_n 2, 1) := by decide +kernel
theorem dX9_take_3 : decode cX9_take 3 = .ok (.aload_n 0, 1) := by decide +kernel
theorem dX9_take_4 : decode cX9_take 4 = .ok (.getfield 18, 3) := by decide +kernel
theorem dX9_take_7 : decode cX9_take 7 = .ok (.if_icmp .ge 23, 3) := by decide +kernel
theorem dX9_take_10 : decode cX9_take 10 = .ok (.aload_n 0, 1) := by decide +kernel
theorem dX9_take_11 : decode cX9_take 11 = .ok (.getfield 9, 3) := by decide +kernel
theorem dX9_take_14 : decode cX9_take 14 = .ok (.iload_n 2, 1) := by decide +kernel
theorem dX9_take_15 : decode cX9_take 15 = .ok (.iload_n 1, 1) := by decide +kernel
theorem dX9_take_16 : decode cX9_take 16 = .ok (.isub, 1) := by decide +kernel
theorem dX9_take_17 : decode cX9_take 17 = .ok (.aload_n 0, 1) := by decide +kernel
theorem dX9_take_18 : decode cX9_take 18 = .ok (.getfield 9, 3) := by decide +kernel
theorem dX9_take_21 : decode cX9_take 21 = .ok (.iload_n 2, 1) := by decide +kernel
theorem dX9_take_22 : decode cX9_take 22 = .ok (.baload, 1) := by decide +kernel
theorem dX9_take_23 : decode cX9_take 23 = .ok (.bastore, 1) := by decide +kernel
theorem dX9_take_24 : decode cX9_take 24 = .ok (.iinc 2 1, 3) := by decide +kernel
theorem dX9_take_27 : decode cX9_take 27 = .ok (.goto (-25), 3) := by decide +kernel
theorem dX9_take_30 : decode cX9_take 30 = .ok (.aload_n 0, 1) := by decide +kernel
theorem dX9_take_31 : decode cX9_take 31 = .ok (.dup, 1) := by decide +kernel
theorem dX9_take_32 : decode cX9_take 32 = .ok (.getfield 18, 3) := by decide +kernel
theorem dX9_take_35 : decode cX9_take 35 = .ok (.iload_n 1, 1) := by decide +kernel
theorem dX9_take_36 : decode cX9_take 36 = .ok (.isub, 1) := by decide +kernel
theorem dX9_take_37 : decode cX9_take 37 = .ok (.putfield 18, 3) := by decide +kernel
theorem dX9_take_40 : decode cX9_take 40 = .ok (.return_, 1) := by decide +kernel
theorem x_b8 {x : Int32} (h : fits .byte (.int x) = true) : x.toInt8.toInt32 = x := by
  have h2 := h
  simp [fits] at h2
  apply Int32.toInt_inj.mp
  rw [Int8.toInt_toInt32, Int32.toInt_toInt8]
  have h3 : -128 ≤ x.toInt ∧ x.toInt ≤ 127 := by
    have a := Int32.le_iff_toInt_le.mp h2.1; have b := Int32.le_iff_toInt_le.mp h2.2
    exact ⟨a, b⟩
  exact Int.bmod_eq_of_le (by omega) (by omega)
set_option maxHeartbeats 4000000 in
set_option maxRecDepth 100000 in
theorem l_X9_take {G : xG} {n a b : Nat} {Q : Outcome → xS → Prop} {J : xJ} {Z : xR} {T : xT} {R : xR} {I0 : xI} {N B : Nat} (hk : KS Z T N B) {p s : Nat} (hp : p < 8) {t : Nat} (h64 : s ≤ 64) (ht : t ≤ s) (hs0 : I0 8 p 1 = nI s) (hq : Q (.returned none) (xu (xfil I0 44 p 0 (s - t) (fun j => I0 44 p (j + t))) 8 p 1 (nI (s - t)), J, R, Z, T)) (k : Nat) (I : xI) (hn : 1 ≤ n) :
    (t ≤ k ∧ k ≤ s) → (I = xfil I0 44 p 0 (k - t) (fun j => I0 44 p (j + t))) → X G mX9_take n a b Q (I, J, R, Z, T) 2 [(1, .ref (T.ad 8 p)), (1, .int (nI t)), (1, .int (nI k))] [] := by
  induction hm : s - k using Nat.strongRecOn generalizing k I with
  | _ m ih =>
    intro h8 hI
    have hs : I 8 p 1 = nI s := by rw [hI, xfil_c (by decide)]; exact hs0
    refine x_iload_n 3 dX9_take_2 rfl rfl ?_
    refine x_aload_n 4 dX9_take_3 rfl rfl ?_
    refine x_geti 7 dX9_take_4 rfl fl_X9_18 (hk.l8 (by omega)) ?_
    refine x_vi (w := nI s) hs ?_
    refine x_icmp_ge 30 10 dX9_take_7 (by decide) rfl (fun c7 => ?_) (fun c7 => ?_)
    · skip
      have c7 : s ≤ k := (nI_leI (a := s) (b := k) (by omega) (by omega)).mp c7
      refine x_aload_n 31 dX9_take_30 rfl rfl ?_
      refine x_dup 32 dX9_take_31 rfl rfl ?_
      refine x_geti 35 dX9_take_32 rfl fl_X9_18 (hk.l8 (by omega)) ?_
      refine x_vi (w := nI s) hs ?_
      refine x_iload_n 36 dX9_take_35 rfl rfl ?_
      refine x_isubn s t 37 dX9_take_36 rfl rfl rfl (by omega) ?_
      refine x_puti 40 dX9_take_37 rfl fl_X9_18 rfl rfl (hk.l8 (by omega)) ?_
      refine x_nmI fun I1 hI1 => ?_
      refine x_vreturn dX9_take_40 rfl ?_
      have e : k = s := by omega
      subst e
      rw [hI1, hI]; exact hq
    · skip
      have c7 : ¬ (s ≤ k) := fun h => c7 ((nI_leI (a := s) (b := k) (by omega) (by omega)).mpr h)
      refine x_wf fun hw => ?_
      have hb : fits .byte (.int (I 44 p k)) = true := (hw.2.2 44 p k (hk.l44 hp) (by decide) (by rw [hk.n44 hp]; omega)).1 (by decide)
      refine x_aload_n 11 dX9_take_10 rfl rfl ?_
      refine x_getz 14 dX9_take_11 rfl fl_X9_9 (hk.l8 (by omega)) (hk.z8_0 (by omega)) ?_
      refine x_iload_n 15 dX9_take_14 rfl rfl ?_
      refine x_iload_n 16 dX9_take_15 rfl rfl ?_
      refine x_isubn k t 17 dX9_take_16 rfl rfl rfl (by omega) ?_
      refine x_aload_n 18 dX9_take_17 rfl rfl ?_
      refine x_getz 21 dX9_take_18 rfl fl_X9_9 (hk.l8 (by omega)) (hk.z8_0 (by omega)) ?_
      refine x_iload_n 22 dX9_take_21 rfl rfl ?_
      refine x_bald 23 dX9_take_22 rfl ar_44 (hk.l44 (by omega)) (xb (hk.n44 (by omega)) (by omega) (by omega)) ?_
      refine x_bast 24 dX9_take_23 rfl ar_44 (by decide) (by decide) (hk.l44 (by omega)) (xb (hk.n44 (by omega)) (by omega) (by omega)) ?_
      refine x_nmI fun I2 hI2 => ?_
      refine x_iinc 27 [(1, .ref (T.ad 8 p)), (1, .int (nI t)), (1, .int (nI (k + 1)))] dX9_take_24 rfl (by decide) rfl (xi_1 k) rfl ?_
      refine x_goto 2 dX9_take_27 (by decide) ?_
      exact ih _ (by rw [← hm]; omega) (k + 1) I2 rfl (by omega) (by rw [hI2, hI, xfil_out (by omega), show k + 1 - t = k - t + 1 by omega]; refine xfil_step (by omega) ?_; show I0 44 p (k - t + t) = _; rw [show k - t + t = k by omega]; exact (x_b8 (by rw [hI, xfil_out (by omega)] at hb; exact hb)).symm)
set_option maxHeartbeats 4000000 in
set_option maxRecDepth 100000 in
theorem c_X9_take {G : xG} {n : Nat} {Q : Outcome → xS → Prop} {I : xI} {J : xJ} {R Z : xR} {T : xT} {N B : Nat} (hk : KS Z T N B) {p s : Nat} (hp : p < 8) {t : Nat} (h64 : s ≤ 64) (ht : t ≤ s) (hs : I 8 p 1 = nI s) (hn : 1 ≤ n) (hq : Q (.returned none) (xu (xfil I 44 p 0 (s - t) (fun j => I 44 p (j + t))) 8 p 1 (nI (s - t)), J, R, Z, T)) : xCall G mX9_take n [.ref (T.ad 8 p), .int (nI t)] (I, J, R, Z, T) Q := by
  refine x_met (L0 := [(1, .ref (T.ad 8 p)), (1, .int (nI t)), xo]) (by decide +kernel) rfl ⟨Nat.le_of_ble_eq_true rfl, rfl⟩ ?_
  refine x_iload_n 1 dX9_take_0 rfl rfl ?_
  refine x_istore_n 2 [(1, .ref (T.ad 8 p)), (1, .int (nI t)), (1, .int (nI t))] dX9_take_1 rfl (by decide) rfl ?_
  exact l_X9_take hk hp h64 ht hs hq t _ hn (by omega) (by rw [Nat.sub_self]; exact (xfil_0 _ _ _ _ _).symm)
theorem dJ3_min_0 : decode cJ3_min 0 = .ok (.iload_n 0, 1) := by decide +kernel
theorem dJ3_min_1 : decode cJ3_min 1 = .ok (.iload_n 1, 1) := by decide +kernel
theorem dJ3_min_2 : decode cJ3_min 2 = .ok (.if_icmp .gt 7, 3) := by decide +kernel
theorem dJ3_min_5 : decode cJ3_min 5 = .ok (.iload_n 0, 1) := by decide +kernel
theorem dJ3_min_6 : decode cJ3_min 6 = .ok (.goto 4, 3) := by decide +kernel
theorem dJ3_min_9 : decode cJ3_min 9 = .ok (.iload_n 1, 1) := by decide +kernel
theorem dJ3_min_10 : decode cJ3_min 10 = .ok (.ireturn, 1) := by decide +kernel
set_option maxHeartbeats 4000000 in
set_option maxRecDepth 100000 in
theorem c_J3_min {G : xG} {n : Nat} {Q : Outcome → xS → Prop} {I : xI} {J : xJ} {R Z : xR} {T : xT} {x y : Nat} (hx : x < 2147483648) (hy : y < 2147483648) (hn : 1 ≤ n) (hq : Q (.returned (some (.int (nI (min x y))))) (I, J, R, Z, T)) : xCall G mJ3_min n [.int (nI x), .int (nI y)] (I, J, R, Z, T) Q := by
  refine x_met (L0 := [(1, .int (nI x)), (1, .int (nI y))]) (by decide +kernel) rfl ⟨Nat.le_of_ble_eq_true rfl, rfl⟩ ?_
  refine x_iload_n 1 dJ3_min_0 rfl rfl ?_
  refine x_iload_n 2 dJ3_min_1 rfl rfl ?_
  refine x_icmp_gt 9 5 dJ3_min_2 (by decide) rfl (fun c2 => ?_) (fun c2 => ?_)
  · skip
    have c2 : y < x := (nI_ltI (a := y) (b := x) (by omega) (by omega)).mp c2
    refine x_iload_n 10 dJ3_min_9 rfl rfl ?_
    refine x_ireturn dJ3_min_10 rfl ?_
    exact xri (congrArg nI (by omega)) hq
  · skip
    have c2 : ¬ (y < x) := fun h => c2 ((nI_ltI (a := y) (b := x) (by omega) (by omega)).mpr h)
    refine x_iload_n 6 dJ3_min_5 rfl rfl ?_
    refine x_goto 10 dJ3_min_6 (by decide) ?_
    refine x_ireturn dJ3_min_10 rfl ?_
    exact xri (congrArg nI (by omega)) hq
theorem dJ3_max_0 : decode cJ3_max 0 = .ok (.iload_n 0, 1) := by decide +kernel
theorem dJ3_max_1 : decode cJ3_max 1 = .ok (.iload_n 1, 1) := by decide +kernel
theorem dJ3_max_2 : decode cJ3_max 2 = .ok (.if_icmp .lt 7, 3) := by decide +kernel
theorem dJ3_max_5 : decode cJ3_max 5 = .ok (.iload_n 0, 1) := by decide +kernel
theorem dJ3_max_6 : decode cJ3_max 6 = .ok (.goto 4, 3) := by decide +kernel
theorem dJ3_max_9 : decode cJ3_max 9 = .ok (.iload_n 1, 1) := by decide +kernel
theorem dJ3_max_10 : decode cJ3_max 10 = .ok (.ireturn, 1) := by decide +kernel
set_option maxHeartbeats 4000000 in
set_option maxRecDepth 100000 in
theorem c_J3_max {G : xG} {n : Nat} {Q : Outcome → xS → Prop} {I : xI} {J : xJ} {R Z : xR} {T : xT} {x y : Nat} (hx : x < 2147483648) (hy : y < 2147483648) (hn : 1 ≤ n) (hq : Q (.returned (some (.int (nI (max x y))))) (I, J, R, Z, T)) : xCall G mJ3_max n [.int (nI x), .int (nI y)] (I, J, R, Z, T) Q := by
  refine x_met (L0 := [(1, .int (nI x)), (1, .int (nI y))]) (by decide +kernel) rfl ⟨Nat.le_of_ble_eq_true rfl, rfl⟩ ?_
  refine x_iload_n 1 dJ3_max_0 rfl rfl ?_
  refine x_iload_n 2 dJ3_max_1 rfl rfl ?_
  refine x_icmp_lt 9 5 dJ3_max_2 (by decide) rfl (fun c2 => ?_) (fun c2 => ?_)
  · skip
    have c2 : x < y := (nI_ltI (a := x) (b := y) (by omega) (by omega)).mp c2
    refine x_iload_n 10 dJ3_max_9 rfl rfl ?_
    refine x_ireturn dJ3_max_10 rfl ?_
    exact xri (congrArg nI (by omega)) hq
  · skip
    have c2 : ¬ (x < y) := fun h => c2 ((nI_ltI (a := x) (b := y) (by omega) (by omega)).mpr h)
    refine x_iload_n 6 dJ3_max_5 rfl rfl ?_
    refine x_goto 10 dJ3_max_6 (by decide) ?_
    refine x_ireturn dJ3_max_10 rfl ?_
    exact xri (congrArg nI (by omega)) hq
