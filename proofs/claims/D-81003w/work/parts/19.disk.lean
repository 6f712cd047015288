set_option maxRecDepth 100000
/-! Disk: class 5, bytes 35. B blocks, D blocks of inodes, Lg of the log -/
def KD (I : xI) (N B D Lg : Nat) : Prop := I 5 0 0 = nI B ∧ I 5 0 1 = nI D ∧ I 5 0 2 = nI Lg ∧ N = 4 * D ∧ 2 ≤ D ∧ D ≤ 12 ∧ 4 ≤ Lg ∧ Lg ≤ 50 ∧ Lg + D + 9 ≤ B ∧ B ≤ 256
theorem KD.b {I : xI} {N B D Lg : Nat} (h : KD I N B D Lg) : I 5 0 0 = nI B := h.1
theorem KD.d {I : xI} {N B D Lg : Nat} (h : KD I N B D Lg) : I 5 0 1 = nI D := h.2.1
theorem KD.g {I : xI} {N B D Lg : Nat} (h : KD I N B D Lg) : I 5 0 2 = nI Lg := h.2.2.1
theorem KD.n {I : xI} {N B D Lg : Nat} (h : KD I N B D Lg) : N = 4 * D ∧ 2 ≤ D ∧ D ≤ 12 ∧ 4 ≤ Lg ∧ Lg ≤ 50 ∧ Lg + D + 9 ≤ B ∧ B ≤ 256 := h.2.2.2
theorem KD.of {I I' : xI} {N B D Lg : Nat} (h : KD I N B D Lg) (e : ∀ k, k < 3 → I' 5 0 k = I 5 0 k) : KD I' N B D Lg := ⟨(e 0 (by decide)).trans h.1, (e 1 (by decide)).trans h.2.1, (e 2 (by decide)).trans h.2.2.1, h.2.2.2⟩
def isDat (B D Lg k : Nat) : Prop := 1 + D + Lg ≤ k ∧ k < B
theorem dX6_head_0 : decode cX6_head 0 = .ok (.iconst 1, 1) := by decide +kernel
theorem dX6_head_1 : decode cX6_head 1 = .ok (.aload_n 0, 1) := by decide +kernel
theorem dX6_head_2 : decode cX6_head 2 = .ok (.getfield 15, 3) := by decide +kernel
theorem dX6_head_5 : decode cX6_head 5 = .ok (.iadd, 1) := by decide +kernel
theorem dX6_head_6 : decode cX6_head 6 = .ok (.ireturn, 1) := by decide +kernel
set_option maxHeartbeats 4000000 in
set_option maxRecDepth 100000 in
theorem c_X6_head {G : xG} {n : Nat} {Q : Outcome → xS → Prop} {I : xI} {J : xJ} {R Z : xR} {T : xT} {N B D Lg : Nat} (hk : KS Z T N B) (hd : KD I N B D Lg) (hn : 1 ≤ n) (hq : Q (.returned (some (.int (nI (1 + D))))) (I, J, R, Z, T)) : xCall G mX6_head n [.ref (T.ad 5 0)] (I, J, R, Z, T) Q := by
  refine x_met (L0 := [(1, .ref (T.ad 5 0))]) (by decide +kernel) rfl ⟨Nat.le_of_ble_eq_true rfl, rfl⟩ ?_
  refine x_iconst (v := 1) 1 dX6_head_0 rfl rfl ?_
  refine x_aload_n 2 dX6_head_1 rfl rfl ?_
  refine x_geti 5 dX6_head_2 rfl fl_X6_15 (hk.l5 (by omega)) ?_
  refine x_vi (w := nI D) hd.d ?_
  refine x_iaddn 1 D 6 dX6_head_5 rfl rfl rfl ?_
  refine x_ireturn dX6_head_6 rfl ?_
  exact hq
theorem dX6_firstData_0 : decode cX6_firstData 0 = .ok (.iconst 1, 1) := by decide +kernel
theorem dX6_firstData_1 : decode cX6_firstData 1 = .ok (.aload_n 0, 1) := by decide +kernel
theorem dX6_firstData_2 : decode cX6_firstData 2 = .ok (.getfield 15, 3) := by decide +kernel
theorem dX6_firstData_5 : decode cX6_firstData 5 = .ok (.iadd, 1) := by decide +kernel
theorem dX6_firstData_6 : decode cX6_firstData 6 = .ok (.aload_n 0, 1) := by decide +kernel
theorem dX6_firstData_7 : decode cX6_firstData 7 = .ok (.getfield 24, 3) := by decide +kernel
theorem dX6_firstData_10 : decode cX6_firstData 10 = .ok (.iadd, 1) := by decide +kernel
theorem dX6_firstData_11 : decode cX6_firstData 11 = .ok (.ireturn, 1) := by decide +kernel
set_option maxHeartbeats 4000000 in
set_option maxRecDepth 100000 in
theorem c_X6_firstData {G : xG} {n : Nat} {Q : Outcome → xS → Prop} {I : xI} {J : xJ} {R Z : xR} {T : xT} {N B D Lg : Nat} (hk : KS Z T N B) (hd : KD I N B D Lg) (hn : 1 ≤ n) (hq : Q (.returned (some (.int (nI (1 + D + Lg))))) (I, J, R, Z, T)) : xCall G mX6_firstData n [.ref (T.ad 5 0)] (I, J, R, Z, T) Q := by
  refine x_met (L0 := [(1, .ref (T.ad 5 0))]) (by decide +kernel) rfl ⟨Nat.le_of_ble_eq_true rfl, rfl⟩ ?_
  refine x_iconst (v := 1) 1 dX6_firstData_0 rfl rfl ?_
  refine x_aload_n 2 dX6_firstData_1 rfl rfl ?_
  refine x_geti 5 dX6_firstData_2 rfl fl_X6_15 (hk.l5 (by omega)) ?_
  refine x_vi (w := nI D) hd.d ?_
  refine x_iaddn 1 D 6 dX6_firstData_5 rfl rfl rfl ?_
  refine x_aload_n 7 dX6_firstData_6 rfl rfl ?_
  refine x_geti 10 dX6_firstData_7 rfl fl_X6_24 (hk.l5 (by omega)) ?_
  refine x_vi (w := nI Lg) hd.g ?_
  refine x_iaddn (1 + D) Lg 11 dX6_firstData_10 rfl rfl rfl ?_
  refine x_ireturn dX6_firstData_11 rfl ?_
  exact hq
theorem dX6_isData_0 : decode cX6_isData 0 = .ok (.iload_n 1, 1) := by decide +kernel
theorem dX6_isData_1 : decode cX6_isData 1 = .ok (.aload_n 0, 1) := by decide +kernel
theorem dX6_isData_2 : decode cX6_isData 2 = .ok (.invokevirtual 31, 3) := by decide +kernel
theorem dX6_isData_5 : decode cX6_isData 5 = .ok (.if_icmp .lt 15, 3) := by decide +kernel
theorem dX6_isData_8 : decode cX6_isData 8 = .ok (.iload_n 1, 1) := by decide +kernel
theorem dX6_isData_9 : decode cX6_isData 9 = .ok (.aload_n 0, 1) := by decide +kernel
theorem dX6_isData_10 : decode cX6_isData 10 = .ok (.getfield 9, 3) := by decide +kernel
theorem dX6_isData_13 : decode cX6_isData 13 = .ok (.if_icmp .ge 7, 3) := by decide +kernel
theorem dX6_isData_16 : decode cX6_isData 16 = .ok (.iconst 1, 1) := by decide +kernel
theorem dX6_isData_17 : decode cX6_isData 17 = .ok (.goto 4, 3) := by decide +kernel
theorem dX6_isData_20 : decode cX6_isData 20 = .ok (.iconst 0, 1) := by decide +kernel
theorem dX6_isData_21 : decode cX6_isData 21 = .ok (.ireturn, 1) := by decide +kernel
set_option maxHeartbeats 4000000 in
set_option maxRecDepth 100000 in
theorem c_X6_isData {G : xG} {n : Nat} {Q : Outcome → xS → Prop} {I : xI} {J : xJ} {R Z : xR} {T : xT} {N B D Lg : Nat} (hk : KS Z T N B) (hd : KD I N B D Lg) {k : Nat} (hk31 : k < 2147483648) (hn : 2 ≤ n) (hq : Q (.returned (some (.int (b2i (isDat B D Lg k))))) (I, J, R, Z, T)) : xCall G mX6_isData n [.ref (T.ad 5 0), .int (nI k)] (I, J, R, Z, T) Q := by
  refine x_met (L0 := [(1, .ref (T.ad 5 0)), (1, .int (nI k))]) (by decide +kernel) rfl ⟨Nat.le_of_ble_eq_true rfl, rfl⟩ ?_
  have hdn := hd.n
  refine x_iload_n 1 dX6_isData_0 rfl rfl ?_
  refine x_aload_n 2 dX6_isData_1 rfl rfl ?_
  refine x_callV (as := []) (rest := [.int (nI k)]) (i := 0) (n' := n - 1) 5 dX6_isData_2 rfl mv_X6_31 rfl rfl (hk.l5 (by omega)) (xnh rfl) (by omega) (xst (Nat.le_of_ble_eq_true rfl)) (c_X6_firstData hk hd (by omega) ?_)
  change X _ _ _ _ _ _ _ _ _ _
  refine x_icmp_lt 20 8 dX6_isData_5 (by decide) rfl (fun c5 => ?_) (fun c5 => ?_)
  · skip
    have c5 : k < 1 + D + Lg := (nI_ltI (a := k) (b := 1 + D + Lg) (by omega) (by omega)).mp c5
    refine x_iconst (v := 0) 21 dX6_isData_20 rfl rfl ?_
    refine x_zreturn dX6_isData_21 rfl (Or.inl rfl) ?_
    exact xr0 (P := isDat B D Lg k) (by unfold isDat; omega) hq
  · skip
    have c5 : ¬ (k < 1 + D + Lg) := fun h => c5 ((nI_ltI (a := k) (b := 1 + D + Lg) (by omega) (by omega)).mpr h)
    refine x_iload_n 9 dX6_isData_8 rfl rfl ?_
    refine x_aload_n 10 dX6_isData_9 rfl rfl ?_
    refine x_geti 13 dX6_isData_10 rfl fl_X6_9 (hk.l5 (by omega)) ?_
    refine x_vi (w := nI B) hd.b ?_
    refine x_icmp_ge 20 16 dX6_isData_13 (by decide) rfl (fun c13 => ?_) (fun c13 => ?_)
    · skip
      have c13 : B ≤ k := (nI_leI (a := B) (b := k) (by omega) (by omega)).mp c13
      refine x_iconst (v := 0) 21 dX6_isData_20 rfl rfl ?_
      refine x_zreturn dX6_isData_21 rfl (Or.inl rfl) ?_
      exact xr0 (P := isDat B D Lg k) (by unfold isDat; omega) hq
    · skip
      have c13 : ¬ (B ≤ k) := fun h => c13 ((nI_leI (a := B) (b := k) (by omega) (by omega)).mpr h)
      refine x_iconst (v := 1) 17 dX6_isData_16 rfl rfl ?_
      refine x_goto 21 dX6_isData_17 (by decide) ?_
      refine x_zreturn dX6_isData_21 rfl (Or.inr rfl) ?_
      exact xr1 (P := isDat B D Lg k) (⟨by omega, by omega⟩) hq
theorem dX6_number_0 : decode cX6_number 0 = .ok (.aload_n 1, 1) := by decide +kernel
theorem dX6_number_1 : decode cX6_number 1 = .ok (.iload_n 2, 1) := by decide +kernel
theorem dX6_number_2 : decode cX6_number 2 = .ok (.baload, 1) := by decide +kernel
theorem dX6_number_3 : decode cX6_number 3 = .ok (.sipush 255, 3) := by decide +kernel
theorem dX6_number_6 : decode cX6_number 6 = .ok (.iand, 1) := by decide +kernel
theorem dX6_number_7 : decode cX6_number 7 = .ok (.bipush 8, 2) := by decide +kernel
theorem dX6_number_9 : decode cX6_number 9 = .ok (.ishl, 1) := by decide +kernel
theorem dX6_number_10 : decode cX6_number 10 = .ok (.aload_n 1, 1) := by decide +kernel
theorem dX6_number_11 : decode cX6_number 11 = .ok (.iload_n 2, 1) := by decide +kernel
theorem dX6_number_12 : decode cX6_number 12 = .ok (.iconst 1, 1) := by decide +kernel
theorem dX6_number_13 : decode cX6_number 13 = .ok (.iadd, 1) := by decide +kernel
theorem dX6_number_14 : decode cX6_number 14 = .ok (.baload, 1) := by decide +kernel
theorem dX6_number_15 : decode cX6_number 15 = .ok (.sipush 255, 3) := by decide +kernel
theorem dX6_number_18 : decode cX6_number 18 = .ok (.iand, 1) := by decide +kernel
theorem dX6_number_19 : decode cX6_number 19 = .ok (.ior, 1) := by decide +kernel
theorem dX6_number_20 : decode cX6_number 20 = .ok (.ireturn, 1) := by decide +kernel
set_option maxHeartbeats 4000000 in
set_option maxRecDepth 100000 in
theorem c_X6_number {G : xG} {n : Nat} {Q : Outcome → xS → Prop} {I : xI} {J : xJ} {R Z : xR} {T : xT} {N B : Nat} (hk : KS Z T N B) {c i tg : Nat} (har : xAr c .byte 0 tg) (hlv : T.lv c i) {t : Nat} (ht : t + 1 < T.len c i ∧ t < 1000000) (hn : 1 ≤ n) (hq : Q (.returned (some (.int (num16 (I c i) t)))) (I, J, R, Z, T)) : xCall G mX6_number n [.ref (T.ad 5 0), .ref (T.ad c i), .int (nI t)] (I, J, R, Z, T) Q := by
  refine x_met (L0 := [(1, .ref (T.ad 5 0)), (1, .ref (T.ad c i)), (1, .int (nI t))]) (by decide +kernel) rfl ⟨Nat.le_of_ble_eq_true rfl, rfl⟩ ?_
  refine x_aload_n 1 dX6_number_0 rfl rfl ?_
  refine x_iload_n 2 dX6_number_1 rfl rfl ?_
  refine x_bald 3 dX6_number_2 rfl har hlv ⟨by omega, by omega⟩ ?_
  refine x_sipush (v := 255) 6 dX6_number_3 rfl rfl ?_
  refine x_iand 7 dX6_number_6 rfl ?_
  refine x_bipush (v := 8) 9 dX6_number_7 rfl rfl ?_
  refine x_ishl 10 dX6_number_9 rfl ?_
  refine x_aload_n 11 dX6_number_10 rfl rfl ?_
  refine x_iload_n 12 dX6_number_11 rfl rfl ?_
  refine x_iconst (v := 1) 13 dX6_number_12 rfl rfl ?_
  refine x_iaddn t 1 14 dX6_number_13 rfl rfl rfl ?_
  refine x_bald 15 dX6_number_14 rfl har hlv ⟨by omega, by omega⟩ ?_
  refine x_sipush (v := 255) 18 dX6_number_15 rfl rfl ?_
  refine x_iand 19 dX6_number_18 rfl ?_
  refine x_ior 20 dX6_number_19 rfl ?_
  refine x_ireturn dX6_number_20 rfl ?_
  exact hq
def put16 (I : xI) (c i t : Nat) (v : Int32) : xI := xu (xu I c i t (by8 (v >>> ((8 : Int32) &&& 31)))) c i (t + 1) (by8 v)
theorem dX6_put_0 : decode cX6_put 0 = .ok (.aload_n 1, 1) := by decide +kernel
theorem dX6_put_1 : decode cX6_put 1 = .ok (.iload_n 2, 1) := by decide +kernel
theorem dX6_put_2 : decode cX6_put 2 = .ok (.iload_n 3, 1) := by decide +kernel
theorem dX6_put_3 : decode cX6_put 3 = .ok (.bipush 8, 2) := by decide +kernel
theorem dX6_put_5 : decode cX6_put 5 = .ok (.ishr, 1) := by decide +kernel
theorem dX6_put_6 : decode cX6_put 6 = .ok (.i2b, 1) := by decide +kernel
theorem dX6_put_7 : decode cX6_put 7 = .ok (.bastore, 1) := by decide +kernel
theorem dX6_put_8 : decode cX6_put 8 = .ok (.aload_n 1, 1) := by decide +kernel
theorem dX6_put_9 : decode cX6_put 9 = .ok (.iload_n 2, 1) := by decide +kernel
theorem dX6_put_10 : decode cX6_put 10 = .ok (.iconst 1, 1) := by decide +kernel
theorem dX6_put_11 : decode cX6_put 11 = .ok (.iadd, 1) := by decide +kernel
theorem dX6_put_12 : decode cX6_put 12 = .ok (.iload_n 3, 1) := by decide +kernel
theorem dX6_put_13 : decode cX6_put 13 = .ok (.i2b, 1) := by decide +kernel
theorem dX6_put_14 : decode cX6_put 14 = .ok (.bastore, 1) := by decide +kernel
theorem dX6_put_15 : decode cX6_put 15 = .ok (.return_, 1) := by decide +kernel
set_option maxHeartbeats 4000000 in
set_option maxRecDepth 100000 in
theorem c_X6_put {G : xG} {n : Nat} {Q : Outcome → xS → Prop} {I : xI} {J : xJ} {R Z : xR} {T : xT} {N B : Nat} (hk : KS Z T N B) {c i tg : Nat} (har : xAr c .byte 0 tg) (hlv : T.lv c i) (h50 : c ≠ 50) (h3 : xta c ≠ 3) {t : Nat} {v : Int32} (ht : t + 1 < T.len c i ∧ t < 1000000) (hn : 1 ≤ n) (hq : Q (.returned none) (put16 I c i t v, J, R, Z, T)) : xCall G mX6_put n [.ref (T.ad 5 0), .ref (T.ad c i), .int (nI t), .int v] (I, J, R, Z, T) Q := by
  refine x_met (L0 := [(1, .ref (T.ad 5 0)), (1, .ref (T.ad c i)), (1, .int (nI t)), (1, .int v)]) (by decide +kernel) rfl ⟨Nat.le_of_ble_eq_true rfl, rfl⟩ ?_
  refine x_aload_n 1 dX6_put_0 rfl rfl ?_
  refine x_iload_n 2 dX6_put_1 rfl rfl ?_
  refine x_iload_n 3 dX6_put_2 rfl rfl ?_
  refine x_bipush (v := 8) 5 dX6_put_3 rfl rfl ?_
  refine x_ishr 6 dX6_put_5 rfl ?_
  refine x_i2b 7 dX6_put_6 rfl ?_
  refine x_bast 8 dX6_put_7 rfl har h50 h3 hlv ⟨by omega, by omega⟩ ?_
  refine x_nmI fun I1 hI1 => ?_
  refine x_aload_n 9 dX6_put_8 rfl rfl ?_
  refine x_iload_n 10 dX6_put_9 rfl rfl ?_
  refine x_iconst (v := 1) 11 dX6_put_10 rfl rfl ?_
  refine x_iaddn t 1 12 dX6_put_11 rfl rfl rfl ?_
  refine x_iload_n 13 dX6_put_12 rfl rfl ?_
  refine x_i2b 14 dX6_put_13 rfl ?_
  refine x_bast 15 dX6_put_14 rfl har h50 h3 hlv ⟨by omega, by omega⟩ ?_
  refine x_nmI fun I2 hI2 => ?_
  refine x_vreturn dX6_put_15 rfl ?_
  rw [by8_by8] at hI1 hI2
  rw [hI2, hI1]; exact hq
theorem dJ4_rotateLeft_0 : decode cJ4_rotateLeft 0 = .ok (.lload_n 0, 1) := by decide +kernel
theorem dJ4_rotateLeft_1 : decode cJ4_rotateLeft 1 = .ok (.iload_n 2, 1) := by decide +kernel
theorem dJ4_rotateLeft_2 : decode cJ4_rotateLeft 2 = .ok (.lshl, 1) := by decide +kernel
theorem dJ4_rotateLeft_3 : decode cJ4_rotateLeft 3 = .ok (.lload_n 0, 1) := by decide +kernel
theorem dJ4_rotateLeft_4 : decode cJ4_rotateLeft 4 = .ok (.iload_n 2, 1) := by decide +kernel
theorem dJ4_rotateLeft_5 : decode cJ4_rotateLeft 5 = .ok (.ineg, 1) := by decide +kernel
theorem dJ4_rotateLeft_6 : decode cJ4_rotateLeft 6 = .ok (.lushr, 1) := by decide +kernel
theorem dJ4_rotateLeft_7 : decode cJ4_rotateLeft 7 = .ok (.lor, 1) := by decide +kernel
theorem dJ4_rotateLeft_8 : decode cJ4_rotateLeft 8 = .ok (.lreturn, 1) := by decide +kernel
set_option maxHeartbeats 4000000 in
set_option maxRecDepth 100000 in
theorem c_J4_rotateLeft {G : xG} {n : Nat} {Q : Outcome → xS → Prop} {I : xI} {J : xJ} {R Z : xR} {T : xT} {x : Int64} {s : Int32} (hn : 1 ≤ n) (hq : Q (.returned (some (.long ((x <<< (s.toInt64 &&& 63)) ||| (x.toUInt64 >>> ((-s).toInt64.toUInt64 &&& Int64.toUInt64 63)).toInt64)))) (I, J, R, Z, T)) : xCall G mJ4_rotateLeft n [.long x, .int s] (I, J, R, Z, T) Q := by
  refine x_met (L0 := [(2, .long x), xo, (1, .int s)]) (by decide +kernel) rfl ⟨Nat.le_of_ble_eq_true rfl, rfl⟩ ?_
  refine x_lload_n 1 dJ4_rotateLeft_0 rfl rfl ?_
  refine x_iload_n 2 dJ4_rotateLeft_1 rfl rfl ?_
  refine x_lshl 3 dJ4_rotateLeft_2 rfl ?_
  refine x_lload_n 4 dJ4_rotateLeft_3 rfl rfl ?_
  refine x_iload_n 5 dJ4_rotateLeft_4 rfl rfl ?_
  refine x_ineg 6 dJ4_rotateLeft_5 rfl ?_
  refine x_lushr 7 dJ4_rotateLeft_6 rfl ?_
  refine x_lor 8 dJ4_rotateLeft_7 rfl ?_
  refine x_lreturn dJ4_rotateLeft_8 rfl ?_
  exact hq
def sumK (x : Int64) (b : Int32) : Int64 :=
  let y := (x ^^^ (b &&& 255).toInt64) * 1099511628211
  (y <<< ((9 : Int32).toInt64 &&& 63)) ||| (y.toUInt64 >>> ((-(9 : Int32)).toInt64.toUInt64 &&& Int64.toUInt64 63)).toInt64
def sumF (f : Nat → Int32) (x : Int64) : Nat → Int64
  | 0 => x
  | k + 1 => sumK (sumF f x k) (f k)
theorem dX6_sum_0 : decode cX6_sum 0 = .ok (.lload_n 1, 1) := by decide +kernel
theorem dX6_sum_1 : decode cX6_sum 1 = .ok (.lstore 6, 2) := by decide +kernel
theorem dX6_sum_3 : decode cX6_sum 3 = .ok (.iconst 0, 1) := by decide +kernel
theorem dX6_sum_4 : decode cX6_sum 4 = .ok (.istore 8, 2) := by decide +kernel
theorem dX6_sum_6 : decode cX6_sum 6 = .ok (.iload 8, 2) := by decide +kernel
theorem dX6_sum_8 : decode cX6_sum 8 = .ok (.iload 5, 2) := by decide +kernel
theorem dX6_sum_10 : decode cX6_sum 10 = .ok (.if_icmp .ge 35, 3) := by decide +kernel
theorem dX6_sum_13 : decode cX6_sum 13 = .ok (.lload 6, 2) := by decide +kernel
theorem dX6_sum_15 : decode cX6_sum 15 = .ok (.aload_n 3, 1) := by decide +kernel
theorem dX6_sum_16 : decode cX6_sum 16 = .ok (.iload 4, 2) := by decide +kernel
theorem dX6_sum_18 : decode cX6_sum 18 = .ok (.iload 8, 2) := by decide +kernel
theorem dX6_sum_20 : decode cX6_sum 20 = .ok (.iadd, 1) := by decide +kernel
theorem dX6_sum_21 : decode cX6_sum 21 = .ok (.baload, 1) := by decide +kernel
theorem dX6_sum_22 : decode cX6_sum 22 = .ok (.sipush 255, 3) := by decide +kernel
theorem dX6_sum_25 : decode cX6_sum 25 = .ok (.iand, 1) := by decide +kernel
theorem dX6_sum_26 : decode cX6_sum 26 = .ok (.i2l, 1) := by decide +kernel
theorem dX6_sum_27 : decode cX6_sum 27 = .ok (.lxor, 1) := by decide +kernel
theorem dX6_sum_28 : decode cX6_sum 28 = .ok (.ldc2_w 54, 3) := by decide +kernel
theorem dX6_sum_31 : decode cX6_sum 31 = .ok (.lmul, 1) := by decide +kernel
theorem dX6_sum_32 : decode cX6_sum 32 = .ok (.bipush 9, 2) := by decide +kernel
theorem dX6_sum_34 : decode cX6_sum 34 = .ok (.invokestatic 56, 3) := by decide +kernel
theorem dX6_sum_37 : decode cX6_sum 37 = .ok (.lstore 6, 2) := by decide +kernel
theorem dX6_sum_39 : decode cX6_sum 39 = .ok (.iinc 8 1, 3) := by decide +kernel
theorem dX6_sum_42 : decode cX6_sum 42 = .ok (.goto (-36), 3) := by decide +kernel
theorem dX6_sum_45 : decode cX6_sum 45 = .ok (.lload 6, 2) := by decide +kernel
theorem dX6_sum_47 : decode cX6_sum 47 = .ok (.lreturn, 1) := by decide +kernel
set_option maxHeartbeats 4000000 in
set_option maxRecDepth 100000 in
theorem l_X6_sum {G : xG} {n a b : Nat} {Q : Outcome → xS → Prop} {J : xJ} {Z : xR} {T : xT} {R : xR} {I : xI} {N B : Nat} (hk : KS Z T N B) {c i tg : Nat} (har : xAr c .byte 0 tg) (hlv : T.lv c i) {t m : Nat} {s : Int64} (ht : t + m ≤ T.len c i ∧ t + m < 1000000) (hq : Q (.returned (some (.long (sumF (fun j => I c i (t + j)) s m)))) (I, J, R, Z, T)) (k : Nat) (x : Int64) (hn : 2 ≤ n) :
    (k ≤ m) → (x = sumF (fun j => I c i (t + j)) s k) → X G mX6_sum n a b Q (I, J, R, Z, T) 6 [(1, .ref (T.ad 5 0)), (2, .long s), xo, (1, .ref (T.ad c i)), (1, .int (nI t)), (1, .int (nI m)), (2, .long x), xo, (1, .int (nI k))] [] := by
  induction hm : m - k using Nat.strongRecOn generalizing k x with
  | _ m_ ih =>
    intro h8 hx
    refine x_iload 8 dX6_sum_6 rfl rfl ?_
    refine x_iload 10 dX6_sum_8 rfl rfl ?_
    refine x_icmp_ge 45 13 dX6_sum_10 (by decide) rfl (fun c10 => ?_) (fun c10 => ?_)
    · skip
      have c10 : m ≤ k := (nI_leI (a := m) (b := k) (by omega) (by omega)).mp c10
      refine x_lload 47 dX6_sum_45 rfl rfl ?_
      refine x_lreturn dX6_sum_47 rfl ?_
      have e : k = m := by omega
      rw [hx, e]; exact hq
    · skip
      have c10 : ¬ (m ≤ k) := fun h => c10 ((nI_leI (a := m) (b := k) (by omega) (by omega)).mpr h)
      refine x_lload 15 dX6_sum_13 rfl rfl ?_
      refine x_aload_n 16 dX6_sum_15 rfl rfl ?_
      refine x_iload 18 dX6_sum_16 rfl rfl ?_
      refine x_iload 20 dX6_sum_18 rfl rfl ?_
      refine x_iaddn t k 21 dX6_sum_20 rfl rfl rfl ?_
      refine x_bald 22 dX6_sum_21 rfl har hlv ⟨by omega, by omega⟩ ?_
      refine x_sipush (v := 255) 25 dX6_sum_22 rfl rfl ?_
      refine x_iand 26 dX6_sum_25 rfl ?_
      refine x_i2l 27 dX6_sum_26 rfl ?_
      refine x_lxor 28 dX6_sum_27 rfl ?_
      refine x_ldc2 31 dX6_sum_28 rfl q704 ?_
      refine x_lmul 32 dX6_sum_31 rfl ?_
      refine x_bipush (v := 9) 34 dX6_sum_32 rfl rfl ?_
      refine x_callS (as := [.long ((x ^^^ (((I c i (t + k)) &&& 255).toInt64)) * 1099511628211), .int 9]) (rest := []) (n' := n - 1) 37 dX6_sum_34 rfl ms_X6_56 rfl rfl (xnh rfl) (by omega) (xst (Nat.le_of_ble_eq_true rfl)) (c_J4_rotateLeft (by omega) ?_)
      change X _ _ _ _ _ _ _ _ _ _
      refine x_nml fun x1 hx1 => ?_
      refine x_lstore 39 [(1, .ref (T.ad 5 0)), (2, .long s), xo, (1, .ref (T.ad c i)), (1, .int (nI t)), (1, .int (nI m)), (2, .long x1), xo, (1, .int (nI k))] dX6_sum_37 rfl (by decide) rfl ?_
      refine x_iinc 42 [(1, .ref (T.ad 5 0)), (2, .long s), xo, (1, .ref (T.ad c i)), (1, .int (nI t)), (1, .int (nI m)), (2, .long x1), xo, (1, .int (nI (k + 1)))] dX6_sum_39 rfl (by decide) rfl (xi_1 k) rfl ?_
      refine x_goto 6 dX6_sum_42 (by decide) ?_
      exact ih _ (by rw [← hm]; omega) (k + 1) x1 rfl (by omega) (by rw [hx1, hx]; rfl)
set_option maxHeartbeats 4000000 in
set_option maxRecDepth 100000 in
theorem c_X6_sum {G : xG} {n : Nat} {Q : Outcome → xS → Prop} {I : xI} {J : xJ} {R Z : xR} {T : xT} {N B : Nat} (hk : KS Z T N B) {c i tg : Nat} (har : xAr c .byte 0 tg) (hlv : T.lv c i) {t m : Nat} {s : Int64} (ht : t + m ≤ T.len c i ∧ t + m < 1000000) (hn : 2 ≤ n) (hq : Q (.returned (some (.long (sumF (fun j => I c i (t + j)) s m)))) (I, J, R, Z, T)) : xCall G mX6_sum n [.ref (T.ad 5 0), .long s, .ref (T.ad c i), .int (nI t), .int (nI m)] (I, J, R, Z, T) Q := by
  refine x_met (L0 := [(1, .ref (T.ad 5 0)), (2, .long s), xo, (1, .ref (T.ad c i)), (1, .int (nI t)), (1, .int (nI m)), xo, xo, xo]) (by decide +kernel) rfl ⟨Nat.le_of_ble_eq_true rfl, rfl⟩ ?_
  refine x_lload_n 1 dX6_sum_0 rfl rfl ?_
  refine x_lstore 3 [(1, .ref (T.ad 5 0)), (2, .long s), xo, (1, .ref (T.ad c i)), (1, .int (nI t)), (1, .int (nI m)), (2, .long s), xo, xo] dX6_sum_1 rfl (by decide) rfl ?_
  refine x_iconst (v := 0) 4 dX6_sum_3 rfl rfl ?_
  refine x_istore 6 [(1, .ref (T.ad 5 0)), (2, .long s), xo, (1, .ref (T.ad c i)), (1, .int (nI t)), (1, .int (nI m)), (2, .long s), xo, (1, .int 0)] dX6_sum_4 rfl (by decide) rfl ?_
  exact l_X6_sum hk har hlv ht hq 0 s hn (by omega) rfl
def supB (I : xI) (c i B D Lg : Nat) : xI := xu (xu (put16 (xu (xu I c i 0 (-34)) c i 1 (-19)) c i 2 (nI B)) c i 4 (by8 (nI D))) c i 5 (by8 (nI Lg))
theorem put16_c {I : xI} {c i t c' i' k : Nat} {v : Int32} (h : c' ≠ c) : put16 I c i t v c' i' k = I c' i' k := by unfold put16; rw [xu_c h, xu_c h]
theorem dX6_begin_0 : decode cX6_begin 0 = .ok (.aload_n 1, 1) := by decide +kernel
theorem dX6_begin_1 : decode cX6_begin 1 = .ok (.iconst 0, 1) := by decide +kernel
theorem dX6_begin_2 : decode cX6_begin 2 = .ok (.bipush (-34), 2) := by decide +kernel
theorem dX6_begin_4 : decode cX6_begin 4 = .ok (.bastore, 1) := by decide +kernel
theorem dX6_begin_5 : decode cX6_begin 5 = .ok (.aload_n 1, 1) := by decide +kernel
theorem dX6_begin_6 : decode cX6_begin 6 = .ok (.iconst 1, 1) := by decide +kernel
theorem dX6_begin_7 : decode cX6_begin 7 = .ok (.bipush (-19), 2) := by decide +kernel
theorem dX6_begin_9 : decode cX6_begin 9 = .ok (.bastore, 1) := by decide +kernel
theorem dX6_begin_10 : decode cX6_begin 10 = .ok (.aload_n 0, 1) := by decide +kernel
theorem dX6_begin_11 : decode cX6_begin 11 = .ok (.aload_n 1, 1) := by decide +kernel
theorem dX6_begin_12 : decode cX6_begin 12 = .ok (.iconst 2, 1) := by decide +kernel
theorem dX6_begin_13 : decode cX6_begin 13 = .ok (.aload_n 0, 1) := by decide +kernel
theorem dX6_begin_14 : decode cX6_begin 14 = .ok (.getfield 9, 3) := by decide +kernel
theorem dX6_begin_17 : decode cX6_begin 17 = .ok (.invokevirtual 62, 3) := by decide +kernel
theorem dX6_begin_20 : decode cX6_begin 20 = .ok (.aload_n 1, 1) := by decide +kernel
theorem dX6_begin_21 : decode cX6_begin 21 = .ok (.iconst 4, 1) := by decide +kernel
theorem dX6_begin_22 : decode cX6_begin 22 = .ok (.aload_n 0, 1) := by decide +kernel
theorem dX6_begin_23 : decode cX6_begin 23 = .ok (.getfield 15, 3) := by decide +kernel
theorem dX6_begin_26 : decode cX6_begin 26 = .ok (.i2b, 1) := by decide +kernel
theorem dX6_begin_27 : decode cX6_begin 27 = .ok (.bastore, 1) := by decide +kernel
theorem dX6_begin_28 : decode cX6_begin 28 = .ok (.aload_n 1, 1) := by decide +kernel
theorem dX6_begin_29 : decode cX6_begin 29 = .ok (.iconst 5, 1) := by decide +kernel
theorem dX6_begin_30 : decode cX6_begin 30 = .ok (.aload_n 0, 1) := by decide +kernel
theorem dX6_begin_31 : decode cX6_begin 31 = .ok (.getfield 24, 3) := by decide +kernel
theorem dX6_begin_34 : decode cX6_begin 34 = .ok (.i2b, 1) := by decide +kernel
theorem dX6_begin_35 : decode cX6_begin 35 = .ok (.bastore, 1) := by decide +kernel
theorem dX6_begin_36 : decode cX6_begin 36 = .ok (.return_, 1) := by decide +kernel
set_option maxHeartbeats 4000000 in
set_option maxRecDepth 100000 in
theorem c_X6_begin {G : xG} {n : Nat} {Q : Outcome → xS → Prop} {I : xI} {J : xJ} {R Z : xR} {T : xT} {N B D Lg : Nat} (hk : KS Z T N B) (hd : KD I N B D Lg) {c i tg : Nat} (har : xAr c .byte 0 tg) (hlv : T.lv c i) (h50 : c ≠ 50) (h3 : xta c ≠ 3) (hc5 : c ≠ 5) (ht : 128 ≤ T.len c i) (hn : 2 ≤ n) (hq : Q (.returned none) (supB I c i B D Lg, J, R, Z, T)) : xCall G mX6_begin n [.ref (T.ad 5 0), .ref (T.ad c i)] (I, J, R, Z, T) Q := by
  refine x_met (L0 := [(1, .ref (T.ad 5 0)), (1, .ref (T.ad c i))]) (by decide +kernel) rfl ⟨Nat.le_of_ble_eq_true rfl, rfl⟩ ?_
  have hdn := hd.n
  refine x_aload_n 1 dX6_begin_0 rfl rfl ?_
  refine x_iconst (v := 0) 2 dX6_begin_1 rfl rfl ?_
  refine x_bipush (v := -34) 4 dX6_begin_2 rfl rfl ?_
  refine x_vi2 (w := nI 0) rfl ?_
  refine x_bast 5 dX6_begin_4 rfl har h50 h3 hlv ⟨by omega, by omega⟩ ?_
  refine x_nmI fun I1 hI1 => ?_
  refine x_aload_n 6 dX6_begin_5 rfl rfl ?_
  refine x_iconst (v := 1) 7 dX6_begin_6 rfl rfl ?_
  refine x_bipush (v := -19) 9 dX6_begin_7 rfl rfl ?_
  refine x_vi2 (w := nI 1) rfl ?_
  refine x_bast 10 dX6_begin_9 rfl har h50 h3 hlv ⟨by omega, by omega⟩ ?_
  refine x_nmI fun I2 hI2 => ?_
  refine x_aload_n 11 dX6_begin_10 rfl rfl ?_
  refine x_aload_n 12 dX6_begin_11 rfl rfl ?_
  refine x_iconst (v := 2) 13 dX6_begin_12 rfl rfl ?_
  refine x_aload_n 14 dX6_begin_13 rfl rfl ?_
  refine x_geti 17 dX6_begin_14 rfl fl_X6_9 (hk.l5 (by omega)) ?_
  refine x_vi (w := nI B) (by rw [hI2, xu_c hc5.symm, hI1, xu_c hc5.symm]; exact hd.b) ?_
  refine x_callV (as := [.ref (T.ad c i), .int (nI 2), .int (nI B)]) (rest := []) (i := 0) (n' := n - 1) 20 dX6_begin_17 rfl mv_X6_62 rfl rfl (hk.l5 (by omega)) (xnh rfl) (by omega) (xst (Nat.le_of_ble_eq_true rfl)) (c_X6_put hk har hlv h50 h3 ⟨by omega, by omega⟩ (by omega) ?_)
  change X _ _ _ _ _ _ _ _ _ _
  refine x_aload_n 21 dX6_begin_20 rfl rfl ?_
  refine x_iconst (v := 4) 22 dX6_begin_21 rfl rfl ?_
  refine x_aload_n 23 dX6_begin_22 rfl rfl ?_
  refine x_geti 26 dX6_begin_23 rfl fl_X6_15 (hk.l5 (by omega)) ?_
  refine x_vi (w := nI D) (by rw [put16_c hc5.symm, hI2, xu_c hc5.symm, hI1, xu_c hc5.symm]; exact hd.d) ?_
  refine x_i2b 27 dX6_begin_26 rfl ?_
  refine x_vi2 (w := nI 4) rfl ?_
  refine x_bast 28 dX6_begin_27 rfl har h50 h3 hlv ⟨by omega, by omega⟩ ?_
  refine x_nmI fun I3 hI3 => ?_
  refine x_aload_n 29 dX6_begin_28 rfl rfl ?_
  refine x_iconst (v := 5) 30 dX6_begin_29 rfl rfl ?_
  refine x_aload_n 31 dX6_begin_30 rfl rfl ?_
  refine x_geti 34 dX6_begin_31 rfl fl_X6_24 (hk.l5 (by omega)) ?_
  refine x_vi (w := nI Lg) (by rw [hI3, xu_c hc5.symm, put16_c hc5.symm, hI2, xu_c hc5.symm, hI1, xu_c hc5.symm]; exact hd.g) ?_
  refine x_i2b 35 dX6_begin_34 rfl ?_
  refine x_vi2 (w := nI 5) rfl ?_
  refine x_bast 36 dX6_begin_35 rfl har h50 h3 hlv ⟨by omega, by omega⟩ ?_
  refine x_nmI fun I4 hI4 => ?_
  refine x_vreturn dX6_begin_36 rfl ?_
  rw [by8_by8] at hI3 hI4
  have e1 : ((-34 : Int32)).toInt8.toInt32 = -34 := by decide
  have e2 : ((-19 : Int32)).toInt8.toInt32 = -19 := by decide
  rw [e1] at hI1; rw [e2] at hI2
  rw [hI4, hI3, hI2, hI1]; exact hq
