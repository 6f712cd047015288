set_option maxRecDepth 100000
/-! Head: bytes (class 30), n -/
/-- the bytes of a head with a sequence and nothing else -/
def hb0 (sq : Int32) (j : Nat) : Int32 := if j = 0 then -34 else if j = 1 then -83 else if 2 ≤ j ∧ j < 6 then by8 (sq >>> (nI (24 - 8 * (j - 2)) &&& 31)) else 0
def hbS (sm : Int64) (j : Nat) : Int32 := by8 (sm >>> ((nI (56 - 8 * (j - 120)) : Int32).toInt64 &&& 63)).toInt32
theorem dX2_begin_0 : decode cX2_begin 0 = .ok (.iconst 0, 1) := by decide +kernel
theorem dX2_begin_1 : decode cX2_begin 1 = .ok (.istore_n 2, 1) := by decide +kernel
theorem dX2_begin_2 : decode cX2_begin 2 = .ok (.iload_n 2, 1) := by decide +kernel
theorem dX2_begin_3 : decode cX2_begin 3 = .ok (.sipush 128, 3) := by decide +kernel
theorem dX2_begin_6 : decode cX2_begin 6 = .ok (.if_icmp .ge 16, 3) := by decide +kernel
theorem dX2_begin_9 : decode cX2_begin 9 = .ok (.aload_n 0, 1) := by decide +kernel
theorem dX2_begin_10 : decode cX2_begin 10 = .ok (.getfield 9, 3) := by decide +kernel
theorem dX2_begin_13 : decode cX2_begin 13 = .ok (.iload_n 2, 1) := by decide +kernel
theorem dX2_begin_14 : decode cX2_begin 14 = .ok (.iconst 0, 1) := by decide +kernel
theorem dX2_begin_15 : decode cX2_begin 15 = .ok (.bastore, 1) := by decide +kernel
theorem dX2_begin_16 : decode cX2_begin 16 = .ok (.iinc 2 1, 3) := by decide +kernel
theorem dX2_begin_19 : decode cX2_begin 19 = .ok (.goto (-17), 3) := by decide +kernel
theorem dX2_begin_22 : decode cX2_begin 22 = .ok (.aload_n 0, 1) := by decide +kernel
theorem dX2_begin_23 : decode cX2_begin 23 = .ok (.getfield 9, 3) := by decide +kernel
theorem dX2_begin_26 : decode cX2_begin 26 = .ok (.iconst 0, 1) := by decide +kernel
theorem dX2_begin_27 : decode cX2_begin 27 = .ok (.bipush (-34), 2) := by decide +kernel
theorem dX2_begin_29 : decode cX2_begin 29 = .ok (.bastore, 1) := by decide +kernel
theorem dX2_begin_30 : decode cX2_begin 30 = .ok (.aload_n 0, 1) := by decide +kernel
theorem dX2_begin_31 : decode cX2_begin 31 = .ok (.getfield 9, 3) := by decide +kernel
theorem dX2_begin_34 : decode cX2_begin 34 = .ok (.iconst 1, 1) := by decide +kernel
theorem dX2_begin_35 : decode cX2_begin 35 = .ok (.bipush (-83), 2) := by decide +kernel
theorem dX2_begin_37 : decode cX2_begin 37 = .ok (.bastore, 1) := by decide +kernel
theorem dX2_begin_38 : decode cX2_begin 38 = .ok (.iconst 0, 1) := by decide +kernel
theorem dX2_begin_39 : decode cX2_begin 39 = .ok (.istore_n 2, 1) := by decide +kernel
theorem dX2_begin_40 : decode cX2_begin 40 = .ok (.iload_n 2, 1) := by decide +kernel
theorem dX2_begin_41 : decode cX2_begin 41 = .ok (.iconst 4, 1) := by decide +kernel
theorem dX2_begin_42 : decode cX2_begin 42 = .ok (.if_icmp .ge 27, 3) := by decide +kernel
theorem dX2_begin_45 : decode cX2_begin 45 = .ok (.aload_n 0, 1) := by decide +kernel
theorem dX2_begin_46 : decode cX2_begin 46 = .ok (.getfield 9, 3) := by decide +kernel
theorem dX2_begin_49 : decode cX2_begin 49 = .ok (.iconst 2, 1) := by decide +kernel
theorem dX2_begin_50 : decode cX2_begin 50 = .ok (.iload_n 2, 1) := by decide +kernel
theorem dX2_begin_51 : decode cX2_begin 51 = .ok (.iadd, 1) := by decide +kernel
theorem dX2_begin_52 : decode cX2_begin 52 = .ok (.iload_n 1, 1) := by decide +kernel
theorem dX2_begin_53 : decode cX2_begin 53 = .ok (.bipush 24, 2) := by decide +kernel
theorem dX2_begin_55 : decode cX2_begin 55 = .ok (.bipush 8, 2) := by decide +kernel
theorem dX2_begin_57 : decode cX2_begin 57 = .ok (.iload_n 2, 1) := by decide +kernel
theorem dX2_begin_58 : decode cX2_begin 58 = .ok (.imul, 1) := by decide +kernel
theorem dX2_begin_59 : decode cX2_begin 59 = .ok (.isub, 1) := by decide +kernel
theorem dX2_begin_60 : decode cX2_begin 60 = .ok (.ishr, 1) := by decide +kernel
theorem dX2_begin_61 : decode cX2_begin 61 = .ok (.i2b, 1) := by decide +kernel
theorem dX2_begin_62 : decode cX2_begin 62 = .ok (.bastore, 1) := by decide +kernel
theorem dX2_begin_63 : decode cX2_begin 63 = .ok (.iinc 2 1, 3) := by decide +kernel
theorem dX2_begin_66 : decode cX2_begin 66 = .ok (.goto (-26), 3) := by decide +kernel
theorem dX2_begin_69 : decode cX2_begin 69 = .ok (.aload_n 0, 1) := by decide +kernel
theorem dX2_begin_70 : decode cX2_begin 70 = .ok (.iconst 0, 1) := by decide +kernel
theorem dX2_begin_71 : decode cX2_begin 71 = .ok (.putfield 15, 3) := by decide +kernel
theorem dX2_begin_74 : decode cX2_begin 74 = .ok (.return_, 1) := by decide +kernel
set_option maxHeartbeats 4000000 in
set_option maxRecDepth 100000 in
theorem l_X2_begin_2 {G : xG} {n a b : Nat} {Q : Outcome → xS → Prop} {R : xR} {J : xJ} {Z : xR} {T : xT} {I0 : xI} {N B : Nat} (hk : KS Z T N B) {sq : Int32} (hx : X G mX2_begin n a b Q (xur I0 30 0 (fun _ => 0), J, R, Z, T) 22 [(1, .ref (T.ad 1 0)), (1, .int sq), (1, .int (nI 128))] []) (hn : 1 ≤ n) (k : Nat) (I : xI) :
    (0 ≤ k ∧ k ≤ 128) → (I = xfil I0 30 0 0 k (fun _ => 0)) → X G mX2_begin n a b Q (I, J, R, Z, T) 2 [(1, .ref (T.ad 1 0)), (1, .int sq), (1, .int (nI k))] [] := by
  induction hm : 128 - k using Nat.strongRecOn generalizing k I with
  | _ m ih =>
    intro h8 hI
    refine x_iload_n 3 dX2_begin_2 rfl rfl ?_
    refine x_sipush (v := 128) 6 dX2_begin_3 rfl rfl ?_
    refine x_icmp_ge 22 9 dX2_begin_6 (by decide) rfl (fun c6 => ?_) (fun c6 => ?_)
    · skip
      have c6 : 128 ≤ k := (nI_leI (a := 128) (b := k) (by omega) (by omega)).mp c6
      have e : k = 128 := by omega
      rw [hI, e]
      refine x_eqI (fun c i k hl hi => ?_) hx
      by_cases e30 : c = 30 ∧ i = 0
      · obtain ⟨e1_, e2_⟩ := e30; subst e1_; rw [e2_] at hi ⊢
        have hi2 : k < T.len 30 0 := by simpa [xIn] using hi
        rw [(hk.n30 (by omega))] at hi2
        rw [xur_eq, xfil_in (by omega)]
      rw [xur_n e30, xfil_n e30]
    · skip
      have c6 : ¬ (128 ≤ k) := fun h => c6 ((nI_leI (a := 128) (b := k) (by omega) (by omega)).mpr h)
      refine x_aload_n 10 dX2_begin_9 rfl rfl ?_
      refine x_getz 13 dX2_begin_10 rfl fl_X2_9 (hk.l1 (by omega)) (hk.z1_0 (by omega)) ?_
      refine x_iload_n 14 dX2_begin_13 rfl rfl ?_
      refine x_iconst (v := 0) 15 dX2_begin_14 rfl rfl ?_
      refine x_bast 16 dX2_begin_15 rfl ar_30 (by decide) (by decide) (hk.l30 (by omega)) (xb (hk.n30 (by omega)) (by omega) (by omega)) ?_
      refine x_nmI fun I1 hI1 => ?_
      refine x_iinc 19 [(1, .ref (T.ad 1 0)), (1, .int sq), (1, .int (nI (k + 1)))] dX2_begin_16 rfl (by decide) rfl (xi_1 k) rfl ?_
      refine x_goto 2 dX2_begin_19 (by decide) ?_
      have e : I1 = xfil I0 30 0 0 (k + 1) (fun _ => 0) := by
        rw [hI1, hI]
        rw [xfil_step (by omega) (by first | rfl | simp_all)]
      exact ih _ (by rw [← hm]; omega) (k + 1) I1 rfl (by omega) e
set_option maxHeartbeats 4000000 in
set_option maxRecDepth 100000 in
theorem l_X2_begin_40 {G : xG} {n a b : Nat} {Q : Outcome → xS → Prop} {J : xJ} {Z : xR} {T : xT} {R : xR} {I0 : xI} {N B : Nat} (hk : KS Z T N B) {sq : Int32} (hq : Q (.returned none) (xu (xfil I0 30 0 2 6 (hb0 sq)) 1 0 1 0, J, R, Z, T)) (k : Nat) (I : xI) (hn : 1 ≤ n) :
    (k ≤ 4) → (I = xfil I0 30 0 2 (2 + k) (hb0 sq)) → X G mX2_begin n a b Q (I, J, R, Z, T) 40 [(1, .ref (T.ad 1 0)), (1, .int sq), (1, .int (nI k))] [] := by
  induction hm : 4 - k using Nat.strongRecOn generalizing k I with
  | _ m ih =>
    intro h8 hI
    refine x_iload_n 41 dX2_begin_40 rfl rfl ?_
    refine x_iconst (v := 4) 42 dX2_begin_41 rfl rfl ?_
    refine x_icmp_ge 69 45 dX2_begin_42 (by decide) rfl (fun c42 => ?_) (fun c42 => ?_)
    · skip
      have c42 : 4 ≤ k := (nI_leI (a := 4) (b := k) (by omega) (by omega)).mp c42
      refine x_aload_n 70 dX2_begin_69 rfl rfl ?_
      refine x_iconst (v := 0) 71 dX2_begin_70 rfl rfl ?_
      refine x_puti 74 dX2_begin_71 rfl fl_X2_15 rfl rfl (hk.l1 (by omega)) ?_
      refine x_nmI fun I1 hI1 => ?_
      refine x_vreturn dX2_begin_74 rfl ?_
      have e : k = 4 := by omega
      subst e
      rw [hI1, hI]; exact hq
    · skip
      have c42 : ¬ (4 ≤ k) := fun h => c42 ((nI_leI (a := 4) (b := k) (by omega) (by omega)).mpr h)
      refine x_aload_n 46 dX2_begin_45 rfl rfl ?_
      refine x_getz 49 dX2_begin_46 rfl fl_X2_9 (hk.l1 (by omega)) (hk.z1_0 (by omega)) ?_
      refine x_iconst (v := 2) 50 dX2_begin_49 rfl rfl ?_
      refine x_iload_n 51 dX2_begin_50 rfl rfl ?_
      refine x_iaddn 2 k 52 dX2_begin_51 rfl rfl rfl ?_
      refine x_iload_n 53 dX2_begin_52 rfl rfl ?_
      refine x_bipush (v := 24) 55 dX2_begin_53 rfl rfl ?_
      refine x_bipush (v := 8) 57 dX2_begin_55 rfl rfl ?_
      refine x_iload_n 58 dX2_begin_57 rfl rfl ?_
      refine x_imuln 8 k 59 dX2_begin_58 rfl rfl rfl ?_
      refine x_isubn 24 (8 * k) 60 dX2_begin_59 rfl rfl rfl (by omega) ?_
      refine x_ishr 61 dX2_begin_60 rfl ?_
      refine x_i2b 62 dX2_begin_61 rfl ?_
      refine x_bast 63 dX2_begin_62 rfl ar_30 (by decide) (by decide) (hk.l30 (by omega)) (xb (hk.n30 (by omega)) (by omega) (by omega)) ?_
      refine x_nmI fun I2 hI2 => ?_
      refine x_iinc 66 [(1, .ref (T.ad 1 0)), (1, .int sq), (1, .int (nI (k + 1)))] dX2_begin_63 rfl (by decide) rfl (xi_1 k) rfl ?_
      refine x_goto 40 dX2_begin_66 (by decide) ?_
      exact ih _ (by rw [← hm]; omega) (k + 1) I2 rfl (by omega) (by rw [hI2, hI]; refine xfil_step (by omega) ?_; rw [by8_by8]; unfold hb0; rw [if_neg (by omega), if_neg (by omega), if_pos (by omega), show 2 + k - 2 = k by omega]; rfl)
set_option maxHeartbeats 4000000 in
set_option maxRecDepth 100000 in
theorem c0_X2_begin {G : xG} {n : Nat} {Q : Outcome → xS → Prop} {I : xI} {J : xJ} {R Z : xR} {T : xT} {N B : Nat} (hk : KS Z T N B) {sq : Int32} (hn : 1 ≤ n) (hq : Q (.returned none) (xu (xfil (xu (xu (xur I 30 0 (fun _ => 0)) 30 0 0 (-34)) 30 0 1 (-83)) 30 0 2 6 (hb0 sq)) 1 0 1 0, J, R, Z, T)) : xCall G mX2_begin n [.ref (T.ad 1 0), .int sq] (I, J, R, Z, T) Q := by
  refine x_met (L0 := [(1, .ref (T.ad 1 0)), (1, .int sq), xo]) (by decide +kernel) rfl ⟨Nat.le_of_ble_eq_true rfl, rfl⟩ ?_
  refine x_iconst (v := 0) 1 dX2_begin_0 rfl rfl ?_
  refine x_istore_n 2 [(1, .ref (T.ad 1 0)), (1, .int sq), (1, .int 0)] dX2_begin_1 rfl (by decide) rfl ?_
  refine l_X2_begin_2 hk ?_ hn 0 _ (by omega) (xfil_0 _ _ _ _ _).symm
  refine x_aload_n 23 dX2_begin_22 rfl rfl ?_
  refine x_getz 26 dX2_begin_23 rfl fl_X2_9 (hk.l1 (by omega)) (hk.z1_0 (by omega)) ?_
  refine x_iconst (v := 0) 27 dX2_begin_26 rfl rfl ?_
  refine x_bipush (v := -34) 29 dX2_begin_27 rfl rfl ?_
  refine x_vi2 (w := nI 0) rfl ?_
  refine x_bast 30 dX2_begin_29 rfl ar_30 (by decide) (by decide) (hk.l30 (by omega)) (xb (hk.n30 (by omega)) (by omega) (by omega)) ?_
  refine x_nmI fun I1 hI1 => ?_
  refine x_aload_n 31 dX2_begin_30 rfl rfl ?_
  refine x_getz 34 dX2_begin_31 rfl fl_X2_9 (hk.l1 (by omega)) (hk.z1_0 (by omega)) ?_
  refine x_iconst (v := 1) 35 dX2_begin_34 rfl rfl ?_
  refine x_bipush (v := -83) 37 dX2_begin_35 rfl rfl ?_
  refine x_vi2 (w := nI 1) rfl ?_
  refine x_bast 38 dX2_begin_37 rfl ar_30 (by decide) (by decide) (hk.l30 (by omega)) (xb (hk.n30 (by omega)) (by omega) (by omega)) ?_
  refine x_nmI fun I2 hI2 => ?_
  refine x_iconst (v := 0) 39 dX2_begin_38 rfl rfl ?_
  refine x_istore_n 40 [(1, .ref (T.ad 1 0)), (1, .int sq), (1, .int 0)] dX2_begin_39 rfl (by decide) rfl ?_
  refine l_X2_begin_40 hk ?_ 0 _ hn (by omega) (xfil_0 _ _ _ _ _).symm
  rw [hI2, hI1]
  exact hq
theorem c_X2_begin {G : xG} {n : Nat} {Q : Outcome → xS → Prop} {I : xI} {J : xJ} {R Z : xR} {T : xT} {N B : Nat} (hk : KS Z T N B) {sq : Int32} (hn : 1 ≤ n) (hq : Q (.returned none) (xu (xur I 30 0 (hb0 sq)) 1 0 1 0, J, R, Z, T)) : xCall G mX2_begin n [.ref (T.ad 1 0), .int sq] (I, J, R, Z, T) Q := by
  refine c0_X2_begin hk hn ?_
  have e : xfil (xu (xu (xur I 30 0 (fun _ => 0)) 30 0 0 (-34)) 30 0 1 (-83)) 30 0 2 6 (hb0 sq) = xur I 30 0 (hb0 sq) := by
    funext c i j
    by_cases e : c = 30 ∧ i = 0
    · obtain ⟨rfl, rfl⟩ := e
      rw [xur_eq]
      by_cases h2 : 2 ≤ j ∧ j < 6
      · rw [xfil_in h2]
      · rw [xfil_out h2]
        unfold hb0 xu
        by_cases h0 : j = 0
        · subst h0; rfl
        · by_cases h1 : j = 1
          · subst h1; rfl
          · simp [h0, h1, h2, xur_eq]
    · rw [xfil_n e, xur_n e, xu_n (fun h => e ⟨h.1, h.2.1⟩), xu_n (fun h => e ⟨h.1, h.2.1⟩), xur_n e]
  rw [e]; exact hq
def hAdd (I : xI) (m : Nat) (v : Int32) : xI := xu (xu (xu (xu I 30 0 (7 + 2 * m) (by8 (v >>> ((8 : Int32) &&& 31)))) 30 0 (8 + 2 * m) (by8 v)) 1 0 1 (nI (m + 1))) 30 0 6 (by8 (nI (m + 1)))
theorem dX2_add_0 : decode cX2_add 0 = .ok (.aload_n 0, 1) := by decide +kernel
theorem dX2_add_1 : decode cX2_add 1 = .ok (.getfield 9, 3) := by decide +kernel
theorem dX2_add_4 : decode cX2_add 4 = .ok (.bipush 7, 2) := by decide +kernel
theorem dX2_add_6 : decode cX2_add 6 = .ok (.iconst 2, 1) := by decide +kernel
theorem dX2_add_7 : decode cX2_add 7 = .ok (.aload_n 0, 1) := by decide +kernel
theorem dX2_add_8 : decode cX2_add 8 = .ok (.getfield 15, 3) := by decide +kernel
theorem dX2_add_11 : decode cX2_add 11 = .ok (.imul, 1) := by decide +kernel
theorem dX2_add_12 : decode cX2_add 12 = .ok (.iadd, 1) := by decide +kernel
theorem dX2_add_13 : decode cX2_add 13 = .ok (.iload_n 1, 1) := by decide +kernel
theorem dX2_add_14 : decode cX2_add 14 = .ok (.bipush 8, 2) := by decide +kernel
theorem dX2_add_16 : decode cX2_add 16 = .ok (.ishr, 1) := by decide +kernel
theorem dX2_add_17 : decode cX2_add 17 = .ok (.i2b, 1) := by decide +kernel
theorem dX2_add_18 : decode cX2_add 18 = .ok (.bastore, 1) := by decide +kernel
theorem dX2_add_19 : decode cX2_add 19 = .ok (.aload_n 0, 1) := by decide +kernel
theorem dX2_add_20 : decode cX2_add 20 = .ok (.getfield 9, 3) := by decide +kernel
theorem dX2_add_23 : decode cX2_add 23 = .ok (.bipush 8, 2) := by decide +kernel
theorem dX2_add_25 : decode cX2_add 25 = .ok (.iconst 2, 1) := by decide +kernel
theorem dX2_add_26 : decode cX2_add 26 = .ok (.aload_n 0, 1) := by decide +kernel
theorem dX2_add_27 : decode cX2_add 27 = .ok (.getfield 15, 3) := by decide +kernel
theorem dX2_add_30 : decode cX2_add 30 = .ok (.imul, 1) := by decide +kernel
theorem dX2_add_31 : decode cX2_add 31 = .ok (.iadd, 1) := by decide +kernel
theorem dX2_add_32 : decode cX2_add 32 = .ok (.iload_n 1, 1) := by decide +kernel
theorem dX2_add_33 : decode cX2_add 33 = .ok (.i2b, 1) := by decide +kernel
theorem dX2_add_34 : decode cX2_add 34 = .ok (.bastore, 1) := by decide +kernel
theorem dX2_add_35 : decode cX2_add 35 = .ok (.aload_n 0, 1) := by decide +kernel
theorem dX2_add_36 : decode cX2_add 36 = .ok (.dup, 1) := by decide +kernel
theorem dX2_add_37 : decode cX2_add 37 = .ok (.getfield 15, 3) := by decide +kernel
theorem dX2_add_40 : decode cX2_add 40 = .ok (.iconst 1, 1) := by decide +kernel
theorem dX2_add_41 : decode cX2_add 41 = .ok (.iadd, 1) := by decide +kernel
theorem dX2_add_42 : decode cX2_add 42 = .ok (.putfield 15, 3) := by decide +kernel
theorem dX2_add_45 : decode cX2_add 45 = .ok (.aload_n 0, 1) := by decide +kernel
theorem dX2_add_46 : decode cX2_add 46 = .ok (.getfield 9, 3) := by decide +kernel
theorem dX2_add_49 : decode cX2_add 49 = .ok (.bipush 6, 2) := by decide +kernel
theorem dX2_add_51 : decode cX2_add 51 = .ok (.aload_n 0, 1) := by decide +kernel
theorem dX2_add_52 : decode cX2_add 52 = .ok (.getfield 15, 3) := by decide +kernel
theorem dX2_add_55 : decode cX2_add 55 = .ok (.i2b, 1) := by decide +kernel
theorem dX2_add_56 : decode cX2_add 56 = .ok (.bastore, 1) := by decide +kernel
theorem dX2_add_57 : decode cX2_add 57 = .ok (.return_, 1) := by decide +kernel
set_option maxHeartbeats 4000000 in
set_option maxRecDepth 100000 in
theorem c_X2_add {G : xG} {n : Nat} {Q : Outcome → xS → Prop} {I : xI} {J : xJ} {R Z : xR} {T : xT} {N B : Nat} (hk : KS Z T N B) {m : Nat} {v : Int32} (hm : I 1 0 1 = nI m) (hm2 : m ≤ 49) (hn : 1 ≤ n) (hq : Q (.returned none) (hAdd I m v, J, R, Z, T)) : xCall G mX2_add n [.ref (T.ad 1 0), .int v] (I, J, R, Z, T) Q := by
  refine x_met (L0 := [(1, .ref (T.ad 1 0)), (1, .int v)]) (by decide +kernel) rfl ⟨Nat.le_of_ble_eq_true rfl, rfl⟩ ?_
  refine x_aload_n 1 dX2_add_0 rfl rfl ?_
  refine x_getz 4 dX2_add_1 rfl fl_X2_9 (hk.l1 (by omega)) (hk.z1_0 (by omega)) ?_
  refine x_bipush (v := 7) 6 dX2_add_4 rfl rfl ?_
  refine x_iconst (v := 2) 7 dX2_add_6 rfl rfl ?_
  refine x_aload_n 8 dX2_add_7 rfl rfl ?_
  refine x_geti 11 dX2_add_8 rfl fl_X2_15 (hk.l1 (by omega)) ?_
  refine x_vi (w := nI m) hm ?_
  refine x_imuln 2 m 12 dX2_add_11 rfl rfl rfl ?_
  refine x_iaddn 7 (2 * m) 13 dX2_add_12 rfl rfl rfl ?_
  refine x_iload_n 14 dX2_add_13 rfl rfl ?_
  refine x_bipush (v := 8) 16 dX2_add_14 rfl rfl ?_
  refine x_ishr 17 dX2_add_16 rfl ?_
  refine x_i2b 18 dX2_add_17 rfl ?_
  refine x_bast 19 dX2_add_18 rfl ar_30 (by decide) (by decide) (hk.l30 (by omega)) (xb (hk.n30 (by omega)) (by omega) (by omega)) ?_
  refine x_nmI fun I1 hI1 => ?_
  refine x_aload_n 20 dX2_add_19 rfl rfl ?_
  refine x_getz 23 dX2_add_20 rfl fl_X2_9 (hk.l1 (by omega)) (hk.z1_0 (by omega)) ?_
  refine x_bipush (v := 8) 25 dX2_add_23 rfl rfl ?_
  refine x_iconst (v := 2) 26 dX2_add_25 rfl rfl ?_
  refine x_aload_n 27 dX2_add_26 rfl rfl ?_
  refine x_geti 30 dX2_add_27 rfl fl_X2_15 (hk.l1 (by omega)) ?_
  refine x_vi (w := nI m) (by rw [hI1, xu_c (by decide)]; exact hm) ?_
  refine x_imuln 2 m 31 dX2_add_30 rfl rfl rfl ?_
  refine x_iaddn 8 (2 * m) 32 dX2_add_31 rfl rfl rfl ?_
  refine x_iload_n 33 dX2_add_32 rfl rfl ?_
  refine x_i2b 34 dX2_add_33 rfl ?_
  refine x_bast 35 dX2_add_34 rfl ar_30 (by decide) (by decide) (hk.l30 (by omega)) (xb (hk.n30 (by omega)) (by omega) (by omega)) ?_
  refine x_nmI fun I2 hI2 => ?_
  refine x_aload_n 36 dX2_add_35 rfl rfl ?_
  refine x_dup 37 dX2_add_36 rfl rfl ?_
  refine x_geti 40 dX2_add_37 rfl fl_X2_15 (hk.l1 (by omega)) ?_
  refine x_vi (w := nI m) (by rw [hI2, xu_c (by decide), hI1, xu_c (by decide)]; exact hm) ?_
  refine x_iconst (v := 1) 41 dX2_add_40 rfl rfl ?_
  refine x_iaddn m 1 42 dX2_add_41 rfl rfl rfl ?_
  refine x_puti 45 dX2_add_42 rfl fl_X2_15 rfl rfl (hk.l1 (by omega)) ?_
  refine x_nmI fun I3 hI3 => ?_
  refine x_aload_n 46 dX2_add_45 rfl rfl ?_
  refine x_getz 49 dX2_add_46 rfl fl_X2_9 (hk.l1 (by omega)) (hk.z1_0 (by omega)) ?_
  refine x_bipush (v := 6) 51 dX2_add_49 rfl rfl ?_
  refine x_aload_n 52 dX2_add_51 rfl rfl ?_
  refine x_geti 55 dX2_add_52 rfl fl_X2_15 (hk.l1 (by omega)) ?_
  refine x_vi (w := nI (m + 1)) (by rw [hI3, xu_eq]) ?_
  refine x_i2b 56 dX2_add_55 rfl ?_
  refine x_vi2 (w := nI 6) rfl ?_
  refine x_bast 57 dX2_add_56 rfl ar_30 (by decide) (by decide) (hk.l30 (by omega)) (xb (hk.n30 (by omega)) (by omega) (by omega)) ?_
  refine x_nmI fun I4 hI4 => ?_
  refine x_vreturn dX2_add_57 rfl ?_
  rw [by8_by8] at hI1 hI2 hI4
  rw [hI4, hI3, hI2, hI1]; exact hq
theorem dX2_block_0 : decode cX2_block 0 = .ok (.aload_n 0, 1) := by decide +kernel
theorem dX2_block_1 : decode cX2_block 1 = .ok (.getfield 9, 3) := by decide +kernel
theorem dX2_block_4 : decode cX2_block 4 = .ok (.bipush 7, 2) := by decide +kernel
theorem dX2_block_6 : decode cX2_block 6 = .ok (.iconst 2, 1) := by decide +kernel
theorem dX2_block_7 : decode cX2_block 7 = .ok (.iload_n 1, 1) := by decide +kernel
theorem dX2_block_8 : decode cX2_block 8 = .ok (.imul, 1) := by decide +kernel
theorem dX2_block_9 : decode cX2_block 9 = .ok (.iadd, 1) := by decide +kernel
theorem dX2_block_10 : decode cX2_block 10 = .ok (.baload, 1) := by decide +kernel
theorem dX2_block_11 : decode cX2_block 11 = .ok (.sipush 255, 3) := by decide +kernel
theorem dX2_block_14 : decode cX2_block 14 = .ok (.iand, 1) := by decide +kernel
theorem dX2_block_15 : decode cX2_block 15 = .ok (.bipush 8, 2) := by decide +kernel
theorem dX2_block_17 : decode cX2_block 17 = .ok (.ishl, 1) := by decide +kernel
theorem dX2_block_18 : decode cX2_block 18 = .ok (.aload_n 0, 1) := by decide +kernel
theorem dX2_block_19 : decode cX2_block 19 = .ok (.getfield 9, 3) := by decide +kernel
theorem dX2_block_22 : decode cX2_block 22 = .ok (.bipush 8, 2) := by decide +kernel
theorem dX2_block_24 : decode cX2_block 24 = .ok (.iconst 2, 1) := by decide +kernel
theorem dX2_block_25 : decode cX2_block 25 = .ok (.iload_n 1, 1) := by decide +kernel
theorem dX2_block_26 : decode cX2_block 26 = .ok (.imul, 1) := by decide +kernel
theorem dX2_block_27 : decode cX2_block 27 = .ok (.iadd, 1) := by decide +kernel
theorem dX2_block_28 : decode cX2_block 28 = .ok (.baload, 1) := by decide +kernel
theorem dX2_block_29 : decode cX2_block 29 = .ok (.sipush 255, 3) := by decide +kernel
theorem dX2_block_32 : decode cX2_block 32 = .ok (.iand, 1) := by decide +kernel
theorem dX2_block_33 : decode cX2_block 33 = .ok (.ior, 1) := by decide +kernel
theorem dX2_block_34 : decode cX2_block 34 = .ok (.ireturn, 1) := by decide +kernel
set_option maxHeartbeats 4000000 in
set_option maxRecDepth 100000 in
theorem c_X2_block {G : xG} {n : Nat} {Q : Outcome → xS → Prop} {I : xI} {J : xJ} {R Z : xR} {T : xT} {N B : Nat} (hk : KS Z T N B) {m : Nat} (hm2 : m ≤ 49) (hn : 1 ≤ n) (hq : Q (.returned (some (.int (num16 (I 30 0) (7 + 2 * m))))) (I, J, R, Z, T)) : xCall G mX2_block n [.ref (T.ad 1 0), .int (nI m)] (I, J, R, Z, T) Q := by
  refine x_met (L0 := [(1, .ref (T.ad 1 0)), (1, .int (nI m))]) (by decide +kernel) rfl ⟨Nat.le_of_ble_eq_true rfl, rfl⟩ ?_
  refine x_aload_n 1 dX2_block_0 rfl rfl ?_
  refine x_getz 4 dX2_block_1 rfl fl_X2_9 (hk.l1 (by omega)) (hk.z1_0 (by omega)) ?_
  refine x_bipush (v := 7) 6 dX2_block_4 rfl rfl ?_
  refine x_iconst (v := 2) 7 dX2_block_6 rfl rfl ?_
  refine x_iload_n 8 dX2_block_7 rfl rfl ?_
  refine x_imuln 2 m 9 dX2_block_8 rfl rfl rfl ?_
  refine x_iaddn 7 (2 * m) 10 dX2_block_9 rfl rfl rfl ?_
  refine x_bald 11 dX2_block_10 rfl ar_30 (hk.l30 (by omega)) (xb (hk.n30 (by omega)) (by omega) (by omega)) ?_
  refine x_sipush (v := 255) 14 dX2_block_11 rfl rfl ?_
  refine x_iand 15 dX2_block_14 rfl ?_
  refine x_bipush (v := 8) 17 dX2_block_15 rfl rfl ?_
  refine x_ishl 18 dX2_block_17 rfl ?_
  refine x_aload_n 19 dX2_block_18 rfl rfl ?_
  refine x_getz 22 dX2_block_19 rfl fl_X2_9 (hk.l1 (by omega)) (hk.z1_0 (by omega)) ?_
  refine x_bipush (v := 8) 24 dX2_block_22 rfl rfl ?_
  refine x_iconst (v := 2) 25 dX2_block_24 rfl rfl ?_
  refine x_iload_n 26 dX2_block_25 rfl rfl ?_
  refine x_imuln 2 m 27 dX2_block_26 rfl rfl rfl ?_
  refine x_iaddn 8 (2 * m) 28 dX2_block_27 rfl rfl rfl ?_
  refine x_bald 29 dX2_block_28 rfl ar_30 (hk.l30 (by omega)) (xb (hk.n30 (by omega)) (by omega) (by omega)) ?_
  refine x_sipush (v := 255) 32 dX2_block_29 rfl rfl ?_
  refine x_iand 33 dX2_block_32 rfl ?_
  refine x_ior 34 dX2_block_33 rfl ?_
  refine x_ireturn dX2_block_34 rfl ?_
  exact xri (by unfold num16; rw [show 7 + 2 * m + 1 = 8 + 2 * m by omega]) hq
def sq4 (f : Nat → Int32) : Nat → Int32
  | 0 => 0
  | k + 1 => (sq4 f k <<< ((8 : Int32) &&& 31)) ||| (f (2 + k) &&& 255)
theorem dX2_sequence_0 : decode cX2_sequence 0 = .ok (.iconst 0, 1) := by decide +kernel
theorem dX2_sequence_1 : decode cX2_sequence 1 = .ok (.istore_n 1, 1) := by decide +kernel
theorem dX2_sequence_2 : decode cX2_sequence 2 = .ok (.iconst 0, 1) := by decide +kernel
theorem dX2_sequence_3 : decode cX2_sequence 3 = .ok (.istore_n 2, 1) := by decide +kernel
theorem dX2_sequence_4 : decode cX2_sequence 4 = .ok (.iload_n 2, 1) := by decide +kernel
theorem dX2_sequence_5 : decode cX2_sequence 5 = .ok (.iconst 4, 1) := by decide +kernel
theorem dX2_sequence_6 : decode cX2_sequence 6 = .ok (.if_icmp .ge 27, 3) := by decide +kernel
theorem dX2_sequence_9 : decode cX2_sequence 9 = .ok (.iload_n 1, 1) := by decide +kernel
theorem dX2_sequence_10 : decode cX2_sequence 10 = .ok (.bipush 8, 2) := by decide +kernel
theorem dX2_sequence_12 : decode cX2_sequence 12 = .ok (.ishl, 1) := by decide +kernel
theorem dX2_sequence_13 : decode cX2_sequence 13 = .ok (.aload_n 0, 1) := by decide +kernel
theorem dX2_sequence_14 : decode cX2_sequence 14 = .ok (.getfield 9, 3) := by decide +kernel
theorem dX2_sequence_17 : decode cX2_sequence 17 = .ok (.iconst 2, 1) := by decide +kernel
theorem dX2_sequence_18 : decode cX2_sequence 18 = .ok (.iload_n 2, 1) := by decide +kernel
theorem dX2_sequence_19 : decode cX2_sequence 19 = .ok (.iadd, 1) := by decide +kernel
theorem dX2_sequence_20 : decode cX2_sequence 20 = .ok (.baload, 1) := by decide +kernel
theorem dX2_sequence_21 : decode cX2_sequence 21 = .ok (.sipush 255, 3) := by decide +kernel
theorem dX2_sequence_24 : decode cX2_sequence 24 = .ok (.iand, 1) := by decide +kernel
theorem dX2_sequence_25 : decode cX2_sequence 25 = .ok (.ior, 1) := by decide +kernel
theorem dX2_sequence_26 : decode cX2_sequence 26 = .ok (.istore_n 1, 1) := by decide +kernel
theorem dX2_sequence_27 : decode cX2_sequence 27 = .ok (.iinc 2 1, 3) := by decide +kernel
theorem dX2_sequence_30 : decode cX2_sequence 30 = .ok (.goto (-26), 3) := by decide +kernel
theorem dX2_sequence_33 : decode cX2_sequence 33 = .ok (.iload_n 1, 1) := by decide +kernel
theorem dX2_sequence_34 : decode cX2_sequence 34 = .ok (.ireturn, 1) := by decide +kernel
set_option maxHeartbeats 4000000 in
set_option maxRecDepth 100000 in
theorem l_X2_sequence {G : xG} {n a b : Nat} {Q : Outcome → xS → Prop} {J : xJ} {Z : xR} {T : xT} {R : xR} {I : xI} {N B : Nat} (hk : KS Z T N B) (hq : Q (.returned (some (.int (sq4 (I 30 0) 4)))) (I, J, R, Z, T)) (k : Nat) (s : Int32) (hn : 1 ≤ n) :
    (k ≤ 4) → (s = sq4 (I 30 0) k) → X G mX2_sequence n a b Q (I, J, R, Z, T) 4 [(1, .ref (T.ad 1 0)), (1, .int s), (1, .int (nI k))] [] := by
  induction hm : 4 - k using Nat.strongRecOn generalizing k s with
  | _ m ih =>
    intro h8 hs
    refine x_iload_n 5 dX2_sequence_4 rfl rfl ?_
    refine x_iconst (v := 4) 6 dX2_sequence_5 rfl rfl ?_
    refine x_icmp_ge 33 9 dX2_sequence_6 (by decide) rfl (fun c6 => ?_) (fun c6 => ?_)
    · skip
      have c6 : 4 ≤ k := (nI_leI (a := 4) (b := k) (by omega) (by omega)).mp c6
      refine x_iload_n 34 dX2_sequence_33 rfl rfl ?_
      refine x_ireturn dX2_sequence_34 rfl ?_
      have e : k = 4 := by omega
      rw [hs, e]; exact hq
    · skip
      have c6 : ¬ (4 ≤ k) := fun h => c6 ((nI_leI (a := 4) (b := k) (by omega) (by omega)).mpr h)
      refine x_iload_n 10 dX2_sequence_9 rfl rfl ?_
      refine x_bipush (v := 8) 12 dX2_sequence_10 rfl rfl ?_
      refine x_ishl 13 dX2_sequence_12 rfl ?_
      refine x_aload_n 14 dX2_sequence_13 rfl rfl ?_
      refine x_getz 17 dX2_sequence_14 rfl fl_X2_9 (hk.l1 (by omega)) (hk.z1_0 (by omega)) ?_
      refine x_iconst (v := 2) 18 dX2_sequence_17 rfl rfl ?_
      refine x_iload_n 19 dX2_sequence_18 rfl rfl ?_
      refine x_iaddn 2 k 20 dX2_sequence_19 rfl rfl rfl ?_
      refine x_bald 21 dX2_sequence_20 rfl ar_30 (hk.l30 (by omega)) (xb (hk.n30 (by omega)) (by omega) (by omega)) ?_
      refine x_sipush (v := 255) 24 dX2_sequence_21 rfl rfl ?_
      refine x_iand 25 dX2_sequence_24 rfl ?_
      refine x_ior 26 dX2_sequence_25 rfl ?_
      refine x_nmi fun x1 hx1 => ?_
      refine x_istore_n 27 [(1, .ref (T.ad 1 0)), (1, .int x1), (1, .int (nI k))] dX2_sequence_26 rfl (by decide) rfl ?_
      refine x_iinc 30 [(1, .ref (T.ad 1 0)), (1, .int x1), (1, .int (nI (k + 1)))] dX2_sequence_27 rfl (by decide) rfl (xi_1 k) rfl ?_
      refine x_goto 4 dX2_sequence_30 (by decide) ?_
      exact ih _ (by rw [← hm]; omega) (k + 1) x1 rfl (by omega) (by rw [hx1, hs]; rfl)
set_option maxHeartbeats 4000000 in
set_option maxRecDepth 100000 in
theorem c_X2_sequence {G : xG} {n : Nat} {Q : Outcome → xS → Prop} {I : xI} {J : xJ} {R Z : xR} {T : xT} {N B : Nat} (hk : KS Z T N B) (hn : 1 ≤ n) (hq : Q (.returned (some (.int (sq4 (I 30 0) 4)))) (I, J, R, Z, T)) : xCall G mX2_sequence n [.ref (T.ad 1 0)] (I, J, R, Z, T) Q := by
  refine x_met (L0 := [(1, .ref (T.ad 1 0)), xo, xo]) (by decide +kernel) rfl ⟨Nat.le_of_ble_eq_true rfl, rfl⟩ ?_
  refine x_iconst (v := 0) 1 dX2_sequence_0 rfl rfl ?_
  refine x_istore_n 2 [(1, .ref (T.ad 1 0)), (1, .int 0), xo] dX2_sequence_1 rfl (by decide) rfl ?_
  refine x_iconst (v := 0) 3 dX2_sequence_2 rfl rfl ?_
  refine x_istore_n 4 [(1, .ref (T.ad 1 0)), (1, .int 0), (1, .int 0)] dX2_sequence_3 rfl (by decide) rfl ?_
  exact l_X2_sequence hk hq 0 0 hn (by omega) rfl
theorem dX2_end_0 : decode cX2_end 0 = .ok (.iconst 0, 1) := by decide +kernel
theorem dX2_end_1 : decode cX2_end 1 = .ok (.istore_n 3, 1) := by decide +kernel
theorem dX2_end_2 : decode cX2_end 2 = .ok (.iload_n 3, 1) := by decide +kernel
theorem dX2_end_3 : decode cX2_end 3 = .ok (.bipush 8, 2) := by decide +kernel
theorem dX2_end_5 : decode cX2_end 5 = .ok (.if_icmp .ge 29, 3) := by decide +kernel
theorem dX2_end_8 : decode cX2_end 8 = .ok (.aload_n 0, 1) := by decide +kernel
theorem dX2_end_9 : decode cX2_end 9 = .ok (.getfield 9, 3) := by decide +kernel
theorem dX2_end_12 : decode cX2_end 12 = .ok (.bipush 120, 2) := by decide +kernel
theorem dX2_end_14 : decode cX2_end 14 = .ok (.iload_n 3, 1) := by decide +kernel
theorem dX2_end_15 : decode cX2_end 15 = .ok (.iadd, 1) := by decide +kernel
theorem dX2_end_16 : decode cX2_end 16 = .ok (.lload_n 1, 1) := by decide +kernel
theorem dX2_end_17 : decode cX2_end 17 = .ok (.bipush 56, 2) := by decide +kernel
theorem dX2_end_19 : decode cX2_end 19 = .ok (.bipush 8, 2) := by decide +kernel
theorem dX2_end_21 : decode cX2_end 21 = .ok (.iload_n 3, 1) := by decide +kernel
theorem dX2_end_22 : decode cX2_end 22 = .ok (.imul, 1) := by decide +kernel
theorem dX2_end_23 : decode cX2_end 23 = .ok (.isub, 1) := by decide +kernel
theorem dX2_end_24 : decode cX2_end 24 = .ok (.lshr, 1) := by decide +kernel
theorem dX2_end_25 : decode cX2_end 25 = .ok (.l2i, 1) := by decide +kernel
theorem dX2_end_26 : decode cX2_end 26 = .ok (.i2b, 1) := by decide +kernel
theorem dX2_end_27 : decode cX2_end 27 = .ok (.bastore, 1) := by decide +kernel
theorem dX2_end_28 : decode cX2_end 28 = .ok (.iinc 3 1, 3) := by decide +kernel
theorem dX2_end_31 : decode cX2_end 31 = .ok (.goto (-29), 3) := by decide +kernel
theorem dX2_end_34 : decode cX2_end 34 = .ok (.return_, 1) := by decide +kernel
set_option maxHeartbeats 4000000 in
set_option maxRecDepth 100000 in
theorem l_X2_end {G : xG} {n a b : Nat} {Q : Outcome → xS → Prop} {J : xJ} {Z : xR} {T : xT} {R : xR} {I0 : xI} {N B : Nat} (hk : KS Z T N B) {sm : Int64} (hq : Q (.returned none) (xfil I0 30 0 120 128 (hbS sm), J, R, Z, T)) (k : Nat) (I : xI) (hn : 1 ≤ n) :
    (k ≤ 8) → (I = xfil I0 30 0 120 (120 + k) (hbS sm)) → X G mX2_end n a b Q (I, J, R, Z, T) 2 [(1, .ref (T.ad 1 0)), (2, .long sm), xo, (1, .int (nI k))] [] := by
  induction hm : 8 - k using Nat.strongRecOn generalizing k I with
  | _ m ih =>
    intro h8 hI
    refine x_iload_n 3 dX2_end_2 rfl rfl ?_
    refine x_bipush (v := 8) 5 dX2_end_3 rfl rfl ?_
    refine x_icmp_ge 34 8 dX2_end_5 (by decide) rfl (fun c5 => ?_) (fun c5 => ?_)
    · skip
      have c5 : 8 ≤ k := (nI_leI (a := 8) (b := k) (by omega) (by omega)).mp c5
      refine x_vreturn dX2_end_34 rfl ?_
      have e : k = 8 := by omega
      subst e
      rw [hI]; exact hq
    · skip
      have c5 : ¬ (8 ≤ k) := fun h => c5 ((nI_leI (a := 8) (b := k) (by omega) (by omega)).mpr h)
      refine x_aload_n 9 dX2_end_8 rfl rfl ?_
      refine x_getz 12 dX2_end_9 rfl fl_X2_9 (hk.l1 (by omega)) (hk.z1_0 (by omega)) ?_
      refine x_bipush (v := 120) 14 dX2_end_12 rfl rfl ?_
      refine x_iload_n 15 dX2_end_14 rfl rfl ?_
      refine x_iaddn 120 k 16 dX2_end_15 rfl rfl rfl ?_
      refine x_lload_n 17 dX2_end_16 rfl rfl ?_
      refine x_bipush (v := 56) 19 dX2_end_17 rfl rfl ?_
      refine x_bipush (v := 8) 21 dX2_end_19 rfl rfl ?_
      refine x_iload_n 22 dX2_end_21 rfl rfl ?_
      refine x_imuln 8 k 23 dX2_end_22 rfl rfl rfl ?_
      refine x_isubn 56 (8 * k) 24 dX2_end_23 rfl rfl rfl (by omega) ?_
      refine x_lshr 25 dX2_end_24 rfl ?_
      refine x_l2i 26 dX2_end_25 rfl ?_
      refine x_i2b 27 dX2_end_26 rfl ?_
      refine x_bast 28 dX2_end_27 rfl ar_30 (by decide) (by decide) (hk.l30 (by omega)) (xb (hk.n30 (by omega)) (by omega) (by omega)) ?_
      refine x_nmI fun I1 hI1 => ?_
      refine x_iinc 31 [(1, .ref (T.ad 1 0)), (2, .long sm), xo, (1, .int (nI (k + 1)))] dX2_end_28 rfl (by decide) rfl (xi_1 k) rfl ?_
      refine x_goto 2 dX2_end_31 (by decide) ?_
      exact ih _ (by rw [← hm]; omega) (k + 1) I1 rfl (by omega) (by rw [hI1, hI]; refine xfil_step (by omega) ?_; rw [by8_by8]; unfold hbS; rw [show 120 + k - 120 = k by omega]; rfl)
set_option maxHeartbeats 4000000 in
set_option maxRecDepth 100000 in
theorem c_X2_end {G : xG} {n : Nat} {Q : Outcome → xS → Prop} {I : xI} {J : xJ} {R Z : xR} {T : xT} {N B : Nat} (hk : KS Z T N B) {sm : Int64} (hn : 1 ≤ n) (hq : Q (.returned none) (xfil I 30 0 120 128 (hbS sm), J, R, Z, T)) : xCall G mX2_end n [.ref (T.ad 1 0), .long sm] (I, J, R, Z, T) Q := by
  refine x_met (L0 := [(1, .ref (T.ad 1 0)), (2, .long sm), xo, xo]) (by decide +kernel) rfl ⟨Nat.le_of_ble_eq_true rfl, rfl⟩ ?_
  refine x_iconst (v := 0) 1 dX2_end_0 rfl rfl ?_
  refine x_istore_n 2 [(1, .ref (T.ad 1 0)), (2, .long sm), xo, (1, .int 0)] dX2_end_1 rfl (by decide) rfl ?_
  exact l_X2_end hk hq 0 _ hn (by omega) (xfil_0 _ _ _ _ _).symm
theorem dX2_hasSum_0 : decode cX2_hasSum 0 = .ok (.iconst 0, 1) := by decide +kernel
theorem dX2_hasSum_1 : decode cX2_hasSum 1 = .ok (.istore_n 3, 1) := by decide +kernel
theorem dX2_hasSum_2 : decode cX2_hasSum 2 = .ok (.iload_n 3, 1) := by decide +kernel
theorem dX2_hasSum_3 : decode cX2_hasSum 3 = .ok (.bipush 8, 2) := by decide +kernel
theorem dX2_hasSum_5 : decode cX2_hasSum 5 = .ok (.if_icmp .ge 34, 3) := by decide +kernel
theorem dX2_hasSum_8 : decode cX2_hasSum 8 = .ok (.aload_n 0, 1) := by decide +kernel
theorem dX2_hasSum_9 : decode cX2_hasSum 9 = .ok (.getfield 9, 3) := by decide +kernel
theorem dX2_hasSum_12 : decode cX2_hasSum 12 = .ok (.bipush 120, 2) := by decide +kernel
theorem dX2_hasSum_14 : decode cX2_hasSum 14 = .ok (.iload_n 3, 1) := by decide +kernel
theorem dX2_hasSum_15 : decode cX2_hasSum 15 = .ok (.iadd, 1) := by decide +kernel
theorem dX2_hasSum_16 : decode cX2_hasSum 16 = .ok (.baload, 1) := by decide +kernel
theorem dX2_hasSum_17 : decode cX2_hasSum 17 = .ok (.lload_n 1, 1) := by decide +kernel
theorem dX2_hasSum_18 : decode cX2_hasSum 18 = .ok (.bipush 56, 2) := by decide +kernel
theorem dX2_hasSum_20 : decode cX2_hasSum 20 = .ok (.bipush 8, 2) := by decide +kernel
theorem dX2_hasSum_22 : decode cX2_hasSum 22 = .ok (.iload_n 3, 1) := by decide +kernel
theorem dX2_hasSum_23 : decode cX2_hasSum 23 = .ok (.imul, 1) := by decide +kernel
theorem dX2_hasSum_24 : decode cX2_hasSum 24 = .ok (.isub, 1) := by decide +kernel
theorem dX2_hasSum_25 : decode cX2_hasSum 25 = .ok (.lshr, 1) := by decide +kernel
theorem dX2_hasSum_26 : decode cX2_hasSum 26 = .ok (.l2i, 1) := by decide +kernel
theorem dX2_hasSum_27 : decode cX2_hasSum 27 = .ok (.i2b, 1) := by decide +kernel
theorem dX2_hasSum_28 : decode cX2_hasSum 28 = .ok (.if_icmp .eq 5, 3) := by decide +kernel
theorem dX2_hasSum_31 : decode cX2_hasSum 31 = .ok (.iconst 0, 1) := by decide +kernel
theorem dX2_hasSum_32 : decode cX2_hasSum 32 = .ok (.ireturn, 1) := by decide +kernel
theorem dX2_hasSum_33 : decode cX2_hasSum 33 = .ok (.iinc 3 1, 3) := by decide +kernel
theorem dX2_hasSum_36 : decode cX2_hasSum 36 = .ok (.goto (-34), 3) := by decide +kernel
theorem dX2_hasSum_39 : decode cX2_hasSum 39 = .ok (.iconst 1, 1) := by decide +kernel
theorem dX2_hasSum_40 : decode cX2_hasSum 40 = .ok (.ireturn, 1) := by decide +kernel
set_option maxHeartbeats 4000000 in
set_option maxRecDepth 100000 in
theorem l_X2_hasSum {G : xG} {n a b : Nat} {Q : Outcome → xS → Prop} {J : xJ} {Z : xR} {T : xT} {R : xR} {I : xI} {N B : Nat} (hk : KS Z T N B) {sm : Int64} (hq : Q (.returned (some (.int (b2i (∀ j, j < 8 → I 30 0 (120 + j) = hbS sm (120 + j)))))) (I, J, R, Z, T)) (k : Nat) (hn : 1 ≤ n) :
    (k ≤ 8) → (∀ j, j < k → I 30 0 (120 + j) = hbS sm (120 + j)) → X G mX2_hasSum n a b Q (I, J, R, Z, T) 2 [(1, .ref (T.ad 1 0)), (2, .long sm), xo, (1, .int (nI k))] [] := by
  induction hm : 8 - k using Nat.strongRecOn generalizing k with
  | _ m ih =>
    intro h8 hv
    refine x_iload_n 3 dX2_hasSum_2 rfl rfl ?_
    refine x_bipush (v := 8) 5 dX2_hasSum_3 rfl rfl ?_
    refine x_icmp_ge 39 8 dX2_hasSum_5 (by decide) rfl (fun c5 => ?_) (fun c5 => ?_)
    · skip
      have c5 : 8 ≤ k := (nI_leI (a := 8) (b := k) (by omega) (by omega)).mp c5
      refine x_iconst (v := 1) 40 dX2_hasSum_39 rfl rfl ?_
      refine x_zreturn dX2_hasSum_40 rfl (Or.inr rfl) ?_
      exact xr1 (P := ∀ j, j < 8 → I 30 0 (120 + j) = hbS sm (120 + j)) (fun j hj => hv j (by omega)) hq
    · skip
      have c5 : ¬ (8 ≤ k) := fun h => c5 ((nI_leI (a := 8) (b := k) (by omega) (by omega)).mpr h)
      refine x_aload_n 9 dX2_hasSum_8 rfl rfl ?_
      refine x_getz 12 dX2_hasSum_9 rfl fl_X2_9 (hk.l1 (by omega)) (hk.z1_0 (by omega)) ?_
      refine x_bipush (v := 120) 14 dX2_hasSum_12 rfl rfl ?_
      refine x_iload_n 15 dX2_hasSum_14 rfl rfl ?_
      refine x_iaddn 120 k 16 dX2_hasSum_15 rfl rfl rfl ?_
      refine x_bald 17 dX2_hasSum_16 rfl ar_30 (hk.l30 (by omega)) (xb (hk.n30 (by omega)) (by omega) (by omega)) ?_
      refine x_lload_n 18 dX2_hasSum_17 rfl rfl ?_
      refine x_bipush (v := 56) 20 dX2_hasSum_18 rfl rfl ?_
      refine x_bipush (v := 8) 22 dX2_hasSum_20 rfl rfl ?_
      refine x_iload_n 23 dX2_hasSum_22 rfl rfl ?_
      refine x_imuln 8 k 24 dX2_hasSum_23 rfl rfl rfl ?_
      refine x_isubn 56 (8 * k) 25 dX2_hasSum_24 rfl rfl rfl (by omega) ?_
      refine x_lshr 26 dX2_hasSum_25 rfl ?_
      refine x_l2i 27 dX2_hasSum_26 rfl ?_
      refine x_i2b 28 dX2_hasSum_27 rfl ?_
      refine x_icmp_eq 33 31 dX2_hasSum_28 (by decide) rfl (fun c28 => ?_) (fun c28 => ?_)
      · skip
        refine x_iinc 36 [(1, .ref (T.ad 1 0)), (2, .long sm), xo, (1, .int (nI (k + 1)))] dX2_hasSum_33 rfl (by decide) rfl (xi_1 k) rfl ?_
        refine x_goto 2 dX2_hasSum_36 (by decide) ?_
        exact ih _ (by rw [← hm]; omega) (k + 1) rfl (by omega) (lt_succ_of hv (by rw [c28]; unfold hbS; rw [show 120 + k - 120 = k by omega]; rfl))
      · skip
        refine x_iconst (v := 0) 32 dX2_hasSum_31 rfl rfl ?_
        refine x_zreturn dX2_hasSum_32 rfl (Or.inl rfl) ?_
        exact xr0 (P := ∀ j, j < 8 → I 30 0 (120 + j) = hbS sm (120 + j)) (fun h => c28 (by rw [h k (by omega)]; unfold hbS; rw [show 120 + k - 120 = k by omega]; rfl)) hq
set_option maxHeartbeats 4000000 in
set_option maxRecDepth 100000 in
theorem c_X2_hasSum {G : xG} {n : Nat} {Q : Outcome → xS → Prop} {I : xI} {J : xJ} {R Z : xR} {T : xT} {N B : Nat} (hk : KS Z T N B) {sm : Int64} (hn : 1 ≤ n) (hq : Q (.returned (some (.int (b2i (∀ j, j < 8 → I 30 0 (120 + j) = hbS sm (120 + j)))))) (I, J, R, Z, T)) : xCall G mX2_hasSum n [.ref (T.ad 1 0), .long sm] (I, J, R, Z, T) Q := by
  refine x_met (L0 := [(1, .ref (T.ad 1 0)), (2, .long sm), xo, xo]) (by decide +kernel) rfl ⟨Nat.le_of_ble_eq_true rfl, rfl⟩ ?_
  refine x_iconst (v := 0) 1 dX2_hasSum_0 rfl rfl ?_
  refine x_istore_n 2 [(1, .ref (T.ad 1 0)), (2, .long sm), xo, (1, .int 0)] dX2_hasSum_1 rfl (by decide) rfl ?_
  exact l_X2_hasSum hk hq 0 hn (by omega) (fun j hj => absurd hj (by omega))
