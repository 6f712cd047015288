set_option maxRecDepth 100000
def kKp0 (I : xI) (i : Nat) : xI := xu (xu (xu (xu (xu I 6 i 13 (if I 6 i 21 = 0 then 0 else I 6 i 20)) 6 i 14 (I 6 i 21)) 6 i 15 (I 6 i 22)) 6 i 18 (I 6 i 25)) 6 i 17 (I 6 i 24)
def kMine (I : xI) (i k : Nat) (w : Int32) : xI := if I 6 i k = w then xu I 6 i k (-1) else I
/-- an inode is kept as finished by w -/
def kKeep (I : xI) (i : Nat) (w : Int32) : xI := kMine (kMine (kMine (iKeepS (xfil (kKp0 I i) 38 i 0 (iN (I 6 i 24)) (I 39 i)) i w) i 10 w) i 11 w) i 12 w
theorem dX1_keep_0 : decode cX1_keep 0 = .ok (.aload_n 1, 1) := by decide +kernel
theorem dX1_keep_1 : decode cX1_keep 1 = .ok (.aload_n 1, 1) := by decide +kernel
theorem dX1_keep_2 : decode cX1_keep 2 = .ok (.getfield 412, 3) := by decide +kernel
theorem dX1_keep_5 : decode cX1_keep 5 = .ok (.ifCond .ne 7, 3) := by decide +kernel
theorem dX1_keep_8 : decode cX1_keep 8 = .ok (.iconst 0, 1) := by decide +kernel
theorem dX1_keep_9 : decode cX1_keep 9 = .ok (.goto 7, 3) := by decide +kernel
theorem dX1_keep_12 : decode cX1_keep 12 = .ok (.aload_n 1, 1) := by decide +kernel
theorem dX1_keep_13 : decode cX1_keep 13 = .ok (.getfield 409, 3) := by decide +kernel
theorem dX1_keep_16 : decode cX1_keep 16 = .ok (.putfield 188, 3) := by decide +kernel
theorem dX1_keep_19 : decode cX1_keep 19 = .ok (.aload_n 1, 1) := by decide +kernel
theorem dX1_keep_20 : decode cX1_keep 20 = .ok (.aload_n 1, 1) := by decide +kernel
theorem dX1_keep_21 : decode cX1_keep 21 = .ok (.getfield 412, 3) := by decide +kernel
theorem dX1_keep_24 : decode cX1_keep 24 = .ok (.putfield 191, 3) := by decide +kernel
theorem dX1_keep_27 : decode cX1_keep 27 = .ok (.aload_n 1, 1) := by decide +kernel
theorem dX1_keep_28 : decode cX1_keep 28 = .ok (.aload_n 1, 1) := by decide +kernel
theorem dX1_keep_29 : decode cX1_keep 29 = .ok (.getfield 418, 3) := by decide +kernel
theorem dX1_keep_32 : decode cX1_keep 32 = .ok (.putfield 415, 3) := by decide +kernel
theorem dX1_keep_35 : decode cX1_keep 35 = .ok (.aload_n 1, 1) := by decide +kernel
theorem dX1_keep_36 : decode cX1_keep 36 = .ok (.aload_n 1, 1) := by decide +kernel
theorem dX1_keep_37 : decode cX1_keep 37 = .ok (.getfield 433, 3) := by decide +kernel
theorem dX1_keep_40 : decode cX1_keep 40 = .ok (.putfield 397, 3) := by decide +kernel
theorem dX1_keep_43 : decode cX1_keep 43 = .ok (.aload_n 1, 1) := by decide +kernel
theorem dX1_keep_44 : decode cX1_keep 44 = .ok (.aload_n 1, 1) := by decide +kernel
theorem dX1_keep_45 : decode cX1_keep 45 = .ok (.getfield 430, 3) := by decide +kernel
theorem dX1_keep_48 : decode cX1_keep 48 = .ok (.putfield 394, 3) := by decide +kernel
theorem dX1_keep_51 : decode cX1_keep 51 = .ok (.iconst 0, 1) := by decide +kernel
theorem dX1_keep_52 : decode cX1_keep 52 = .ok (.istore_n 3, 1) := by decide +kernel
theorem dX1_keep_53 : decode cX1_keep 53 = .ok (.iload_n 3, 1) := by decide +kernel
theorem dX1_keep_54 : decode cX1_keep 54 = .ok (.aload_n 1, 1) := by decide +kernel
theorem dX1_keep_55 : decode cX1_keep 55 = .ok (.getfield 394, 3) := by decide +kernel
theorem dX1_keep_58 : decode cX1_keep 58 = .ok (.if_icmp .ge 21, 3) := by decide +kernel
theorem dX1_keep_61 : decode cX1_keep 61 = .ok (.aload_n 1, 1) := by decide +kernel
theorem dX1_keep_62 : decode cX1_keep 62 = .ok (.getfield 395, 3) := by decide +kernel
theorem dX1_keep_65 : decode cX1_keep 65 = .ok (.iload_n 3, 1) := by decide +kernel
theorem dX1_keep_66 : decode cX1_keep 66 = .ok (.aload_n 1, 1) := by decide +kernel
theorem dX1_keep_67 : decode cX1_keep 67 = .ok (.getfield 436, 3) := by decide +kernel
theorem dX1_keep_70 : decode cX1_keep 70 = .ok (.iload_n 3, 1) := by decide +kernel
theorem dX1_keep_71 : decode cX1_keep 71 = .ok (.iaload, 1) := by decide +kernel
theorem dX1_keep_72 : decode cX1_keep 72 = .ok (.iastore, 1) := by decide +kernel
theorem dX1_keep_73 : decode cX1_keep 73 = .ok (.iinc 3 1, 3) := by decide +kernel
theorem dX1_keep_76 : decode cX1_keep 76 = .ok (.goto (-23), 3) := by decide +kernel
theorem dX1_keep_79 : decode cX1_keep 79 = .ok (.aload_n 1, 1) := by decide +kernel
theorem dX1_keep_80 : decode cX1_keep 80 = .ok (.iload_n 2, 1) := by decide +kernel
theorem dX1_keep_81 : decode cX1_keep 81 = .ok (.invokevirtual 496, 3) := by decide +kernel
theorem dX1_keep_84 : decode cX1_keep 84 = .ok (.aload_n 1, 1) := by decide +kernel
theorem dX1_keep_85 : decode cX1_keep 85 = .ok (.getfield 258, 3) := by decide +kernel
theorem dX1_keep_88 : decode cX1_keep 88 = .ok (.iload_n 2, 1) := by decide +kernel
theorem dX1_keep_89 : decode cX1_keep 89 = .ok (.if_icmp .ne 8, 3) := by decide +kernel
theorem dX1_keep_92 : decode cX1_keep 92 = .ok (.aload_n 1, 1) := by decide +kernel
theorem dX1_keep_93 : decode cX1_keep 93 = .ok (.iconst (-1), 1) := by decide +kernel
theorem dX1_keep_94 : decode cX1_keep 94 = .ok (.putfield 258, 3) := by decide +kernel
theorem dX1_keep_97 : decode cX1_keep 97 = .ok (.aload_n 1, 1) := by decide +kernel
theorem dX1_keep_98 : decode cX1_keep 98 = .ok (.getfield 261, 3) := by decide +kernel
theorem dX1_keep_101 : decode cX1_keep 101 = .ok (.iload_n 2, 1) := by decide +kernel
theorem dX1_keep_102 : decode cX1_keep 102 = .ok (.if_icmp .ne 8, 3) := by decide +kernel
theorem dX1_keep_105 : decode cX1_keep 105 = .ok (.aload_n 1, 1) := by decide +kernel
theorem dX1_keep_106 : decode cX1_keep 106 = .ok (.iconst (-1), 1) := by decide +kernel
theorem dX1_keep_107 : decode cX1_keep 107 = .ok (.putfield 261, 3) := by decide +kernel
theorem dX1_keep_110 : decode cX1_keep 110 = .ok (.aload_n 1, 1) := by decide +kernel
theorem dX1_keep_111 : decode cX1_keep 111 = .ok (.getfield 294, 3) := by decide +kernel
theorem dX1_keep_114 : decode cX1_keep 114 = .ok (.iload_n 2, 1) := by decide +kernel
theorem dX1_keep_115 : decode cX1_keep 115 = .ok (.if_icmp .ne 8, 3) := by decide +kernel
theorem dX1_keep_118 : decode cX1_keep 118 = .ok (.aload_n 1, 1) := by decide +kernel
theorem dX1_keep_119 : decode cX1_keep 119 = .ok (.iconst (-1), 1) := by decide +kernel
theorem dX1_keep_120 : decode cX1_keep 120 = .ok (.putfield 294, 3) := by decide +kernel
theorem dX1_keep_123 : decode cX1_keep 123 = .ok (.return_, 1) := by decide +kernel
set_option maxHeartbeats 4000000 in
set_option maxRecDepth 100000 in
theorem l_X1_keep {G : xG} {n a b : Nat} {Q : Outcome → xS → Prop} {J : xJ} {Z : xR} {T : xT} {R : xR} {I0 : xI} {N B : Nat} (hk : KS Z T N B) {i m : Nat} {w : Int32} (hi : i < N) (hmm : I0 6 i 17 = nI m ∧ m ≤ 64) (hx : X G mX1_keep n a b Q (xfil I0 38 i 0 m (I0 39 i), J, R, Z, T) 79 [(1, .ref (T.ad 0 0)), (1, .ref (T.ad 6 i)), (1, .int w), xo] []) (k : Nat) (I : xI) (hn : 1 ≤ n) :
    (k ≤ m) → (I = xfil I0 38 i 0 k (I0 39 i)) → X G mX1_keep n a b Q (I, J, R, Z, T) 53 [(1, .ref (T.ad 0 0)), (1, .ref (T.ad 6 i)), (1, .int w), (1, .int (nI k))] [] := by
  induction hm : m - k using Nat.strongRecOn generalizing k I with
  | _ m_ ih =>
    intro h8 hI
    have hnb := hk.nb
    refine x_iload_n 54 dX1_keep_53 rfl rfl ?_
    refine x_aload_n 55 dX1_keep_54 rfl rfl ?_
    refine x_geti 58 dX1_keep_55 rfl fl_X1_394 (hk.l6 (by omega)) ?_
    refine x_vi (w := nI m) (by rw [hI, xfil_c (by decide)]; exact hmm.1) ?_
    refine x_icmp_ge 79 61 dX1_keep_58 (by decide) rfl (fun c58 => ?_) (fun c58 => ?_)
    · skip
      have c58 : m ≤ k := (nI_leI (a := m) (b := k) (by omega) (by omega)).mp c58
      refine x_fgt [(1, .ref (T.ad 0 0)), (1, .ref (T.ad 6 i)), (1, .int w), xo] ⟨Or.inr rfl, Or.inr rfl, Or.inr rfl, Or.inl rfl, trivial⟩ ?_
      have e : k = m := by omega
      rw [hI, e]; exact hx
    · skip
      have c58 : ¬ (m ≤ k) := fun h => c58 ((nI_leI (a := m) (b := k) (by omega) (by omega)).mpr h)
      refine x_aload_n 62 dX1_keep_61 rfl rfl ?_
      refine x_getz 65 dX1_keep_62 rfl fl_X1_395 (hk.l6 (by omega)) (hk.z6_16 (by omega)) ?_
      refine x_iload_n 66 dX1_keep_65 rfl rfl ?_
      refine x_aload_n 67 dX1_keep_66 rfl rfl ?_
      refine x_getz 70 dX1_keep_67 rfl fl_X1_436 (hk.l6 (by omega)) (hk.z6_23 (by omega)) ?_
      refine x_iload_n 71 dX1_keep_70 rfl rfl ?_
      refine x_iald 72 dX1_keep_71 rfl ar_39 (hk.l39 (by omega)) (xb (hk.n39 (by omega)) (by omega) (by omega)) ?_
      refine x_iast 73 dX1_keep_72 rfl ar_38 (by decide) (by decide) (hk.l38 (by omega)) (xb (hk.n38 (by omega)) (by omega) (by omega)) ?_
      refine x_nmI fun I1 hI1 => ?_
      refine x_iinc 76 [(1, .ref (T.ad 0 0)), (1, .ref (T.ad 6 i)), (1, .int w), (1, .int (nI (k + 1)))] dX1_keep_73 rfl (by decide) rfl (xi_1 k) rfl ?_
      refine x_goto 53 dX1_keep_76 (by decide) ?_
      exact ih _ (by rw [← hm]; omega) (k + 1) I1 rfl (by omega) (by rw [hI1, hI, xfil_c (by decide)]; exact xfil_step (by omega) rfl)
theorem kMine_t {I : xI} {i k : Nat} {w : Int32} (h : I 6 i k = w) : kMine I i k w = xu I 6 i k (-1) := if_pos h
theorem kMine_f {I : xI} {i k : Nat} {w : Int32} (h : ¬ I 6 i k = w) : kMine I i k w = I := if_neg h
set_option maxHeartbeats 4000000 in
set_option maxRecDepth 100000 in
theorem c_X1_keep {G : xG} {n : Nat} {Q : Outcome → xS → Prop} {I : xI} {J : xJ} {R Z : xR} {T : xT} {N B : Nat} (hk : KS Z T N B) {i : Nat} {w : Int32} (hi : i < N) (hnm : kLn (I 6 i 24) 64) (hn : 2 ≤ n) (hq : Q (.returned none) (kKeep I i w, J, R, Z, T)) : xCall G mX1_keep n [.ref (T.ad 0 0), .ref (T.ad 6 i), .int w] (I, J, R, Z, T) Q := by
  refine x_met (L0 := [(1, .ref (T.ad 0 0)), (1, .ref (T.ad 6 i)), (1, .int w), xo]) (by decide +kernel) rfl ⟨Nat.le_of_ble_eq_true rfl, rfl⟩ ?_
  unfold kKeep at hq
  have h123 : X G mX1_keep n T.nc T.ns Q ((kMine (kMine (kMine (iKeepS (xfil (kKp0 I i) 38 i 0 (iN (I 6 i 24)) (I 39 i)) i w) i 10 w) i 11 w) i 12 w), J, R, Z, T) 123 [(1, .ref (T.ad 0 0)), (1, .ref (T.ad 6 i)), (1, .int w), xo] [] := by
    refine x_vreturn dX1_keep_123 rfl ?_
    exact hq
  have h110 : X G mX1_keep n T.nc T.ns Q ((kMine (kMine (iKeepS (xfil (kKp0 I i) 38 i 0 (iN (I 6 i 24)) (I 39 i)) i w) i 10 w) i 11 w), J, R, Z, T) 110 [(1, .ref (T.ad 0 0)), (1, .ref (T.ad 6 i)), (1, .int w), xo] [] := by
    refine x_aload_n 111 dX1_keep_110 rfl rfl ?_
    refine x_geti 114 dX1_keep_111 rfl fl_X1_294 (hk.l6 (by omega)) ?_
    refine x_iload_n 115 dX1_keep_114 rfl rfl ?_
    refine x_icmp_ne 123 118 dX1_keep_115 (by decide) rfl (fun c115 => ?_) (fun c115 => ?_)
    · skip
      rw [kMine_f c115] at h123
      exact h123
    · skip
      refine x_aload_n 119 dX1_keep_118 rfl rfl ?_
      refine x_iconst (v := -1) 120 dX1_keep_119 rfl rfl ?_
      refine x_puti 123 dX1_keep_120 rfl fl_X1_294 rfl rfl (hk.l6 (by omega)) ?_
      refine x_nmI fun I1 hI1 => ?_
      rw [hI1, ← kMine_t c115]
      exact h123
  have h97 : X G mX1_keep n T.nc T.ns Q ((kMine (iKeepS (xfil (kKp0 I i) 38 i 0 (iN (I 6 i 24)) (I 39 i)) i w) i 10 w), J, R, Z, T) 97 [(1, .ref (T.ad 0 0)), (1, .ref (T.ad 6 i)), (1, .int w), xo] [] := by
    refine x_aload_n 98 dX1_keep_97 rfl rfl ?_
    refine x_geti 101 dX1_keep_98 rfl fl_X1_261 (hk.l6 (by omega)) ?_
    refine x_iload_n 102 dX1_keep_101 rfl rfl ?_
    refine x_icmp_ne 110 105 dX1_keep_102 (by decide) rfl (fun c102 => ?_) (fun c102 => ?_)
    · skip
      rw [kMine_f c102] at h110
      exact h110
    · skip
      refine x_aload_n 106 dX1_keep_105 rfl rfl ?_
      refine x_iconst (v := -1) 107 dX1_keep_106 rfl rfl ?_
      refine x_puti 110 dX1_keep_107 rfl fl_X1_261 rfl rfl (hk.l6 (by omega)) ?_
      refine x_nmI fun I1 hI1 => ?_
      rw [hI1, ← kMine_t c102]
      exact h110
  have h84 : X G mX1_keep n T.nc T.ns Q ((iKeepS (xfil (kKp0 I i) 38 i 0 (iN (I 6 i 24)) (I 39 i)) i w), J, R, Z, T) 84 [(1, .ref (T.ad 0 0)), (1, .ref (T.ad 6 i)), (1, .int w), xo] [] := by
    refine x_aload_n 85 dX1_keep_84 rfl rfl ?_
    refine x_geti 88 dX1_keep_85 rfl fl_X1_258 (hk.l6 (by omega)) ?_
    refine x_iload_n 89 dX1_keep_88 rfl rfl ?_
    refine x_icmp_ne 97 92 dX1_keep_89 (by decide) rfl (fun c89 => ?_) (fun c89 => ?_)
    · skip
      rw [kMine_f c89] at h97
      exact h97
    · skip
      refine x_aload_n 93 dX1_keep_92 rfl rfl ?_
      refine x_iconst (v := -1) 94 dX1_keep_93 rfl rfl ?_
      refine x_puti 97 dX1_keep_94 rfl fl_X1_258 rfl rfl (hk.l6 (by omega)) ?_
      refine x_nmI fun I1 hI1 => ?_
      rw [hI1, ← kMine_t c89]
      exact h97
  have hx : X G mX1_keep n T.nc T.ns Q (xfil (kKp0 I i) 38 i 0 (iN (I 6 i 24)) (I 39 i), J, R, Z, T) 79 [(1, .ref (T.ad 0 0)), (1, .ref (T.ad 6 i)), (1, .int w), xo] [] := by
    refine x_aload_n 80 dX1_keep_79 rfl rfl ?_
    refine x_iload_n 81 dX1_keep_80 rfl rfl ?_
    refine x_callV (as := [.int w]) (rest := []) (i := i) (n' := n - 1) 84 dX1_keep_81 rfl mv_X1_496 rfl rfl (hk.l6 (by omega)) (xnh rfl) (by omega) (xst (Nat.le_of_ble_eq_true rfl)) (c_X7_keepSlots hk (by omega) (by omega) ?_)
    change X _ _ _ _ _ _ _ _ _ _
    exact h84
  refine x_aload_n 1 dX1_keep_0 rfl rfl ?_
  refine x_aload_n 2 dX1_keep_1 rfl rfl ?_
  refine x_geti 5 dX1_keep_2 rfl fl_X1_412 (hk.l6 (by omega)) ?_
  refine x_if_ne 12 8 dX1_keep_5 (by decide) rfl (fun c5 => ?_) (fun c5 => ?_)
  · skip
    refine x_aload_n 13 dX1_keep_12 rfl rfl ?_
    refine x_geti 16 dX1_keep_13 rfl fl_X1_409 (hk.l6 (by omega)) ?_
    refine x_puti 19 dX1_keep_16 rfl fl_X1_188 rfl rfl (hk.l6 (by omega)) ?_
    refine x_nmI fun I1 hI1 => ?_
    refine x_aload_n 20 dX1_keep_19 rfl rfl ?_
    refine x_aload_n 21 dX1_keep_20 rfl rfl ?_
    refine x_geti 24 dX1_keep_21 rfl fl_X1_412 (hk.l6 (by omega)) ?_
    refine x_puti 27 dX1_keep_24 rfl fl_X1_191 rfl rfl (hk.l6 (by omega)) ?_
    refine x_nmI fun I2 hI2 => ?_
    refine x_aload_n 28 dX1_keep_27 rfl rfl ?_
    refine x_aload_n 29 dX1_keep_28 rfl rfl ?_
    refine x_geti 32 dX1_keep_29 rfl fl_X1_418 (hk.l6 (by omega)) ?_
    refine x_puti 35 dX1_keep_32 rfl fl_X1_415 rfl rfl (hk.l6 (by omega)) ?_
    refine x_nmI fun I3 hI3 => ?_
    refine x_aload_n 36 dX1_keep_35 rfl rfl ?_
    refine x_aload_n 37 dX1_keep_36 rfl rfl ?_
    refine x_geti 40 dX1_keep_37 rfl fl_X1_433 (hk.l6 (by omega)) ?_
    refine x_puti 43 dX1_keep_40 rfl fl_X1_397 rfl rfl (hk.l6 (by omega)) ?_
    refine x_nmI fun I4 hI4 => ?_
    refine x_aload_n 44 dX1_keep_43 rfl rfl ?_
    refine x_aload_n 45 dX1_keep_44 rfl rfl ?_
    refine x_geti 48 dX1_keep_45 rfl fl_X1_430 (hk.l6 (by omega)) ?_
    refine x_puti 51 dX1_keep_48 rfl fl_X1_394 rfl rfl (hk.l6 (by omega)) ?_
    refine x_nmI fun I5 hI5 => ?_
    refine x_iconst (v := 0) 52 dX1_keep_51 rfl rfl ?_
    refine x_istore_n 53 [(1, .ref (T.ad 0 0)), (1, .ref (T.ad 6 i)), (1, .int w), (1, .int 0)] dX1_keep_52 rfl (by decide) rfl ?_
    have eK : I5 = kKp0 I i := by rw [hI5, hI4, hI3, hI2, hI1]; unfold kKp0; simp only [xu_k, ne_eq, Nat.reduceEqDiff, not_false_eq_true]; first | rw [if_pos c5] | rw [if_neg c5]
    rw [eK]
    have e17 : kKp0 I i 6 i 17 = I 6 i 24 := xu_eq
    have e39 : kKp0 I i 39 i = I 39 i := by funext k_; unfold kKp0; rw [xu_c (by decide), xu_c (by decide), xu_c (by decide), xu_c (by decide), xu_c (by decide)]
    refine l_X1_keep hk hi (m := iN (I 6 i 24)) ⟨by rw [e17]; exact hnm.1, hnm.2⟩ ?_ 0 _ (by omega) (by omega) (xfil_0 _ _ _ _ _).symm
    rw [e39]
    exact hx
  · skip
    refine x_iconst (v := 0) 9 dX1_keep_8 rfl rfl ?_
    refine x_goto 16 dX1_keep_9 (by decide) ?_
    refine x_puti 19 dX1_keep_16 rfl fl_X1_188 rfl rfl (hk.l6 (by omega)) ?_
    refine x_nmI fun I1 hI1 => ?_
    refine x_aload_n 20 dX1_keep_19 rfl rfl ?_
    refine x_aload_n 21 dX1_keep_20 rfl rfl ?_
    refine x_geti 24 dX1_keep_21 rfl fl_X1_412 (hk.l6 (by omega)) ?_
    refine x_puti 27 dX1_keep_24 rfl fl_X1_191 rfl rfl (hk.l6 (by omega)) ?_
    refine x_nmI fun I2 hI2 => ?_
    refine x_aload_n 28 dX1_keep_27 rfl rfl ?_
    refine x_aload_n 29 dX1_keep_28 rfl rfl ?_
    refine x_geti 32 dX1_keep_29 rfl fl_X1_418 (hk.l6 (by omega)) ?_
    refine x_puti 35 dX1_keep_32 rfl fl_X1_415 rfl rfl (hk.l6 (by omega)) ?_
    refine x_nmI fun I3 hI3 => ?_
    refine x_aload_n 36 dX1_keep_35 rfl rfl ?_
    refine x_aload_n 37 dX1_keep_36 rfl rfl ?_
    refine x_geti 40 dX1_keep_37 rfl fl_X1_433 (hk.l6 (by omega)) ?_
    refine x_puti 43 dX1_keep_40 rfl fl_X1_397 rfl rfl (hk.l6 (by omega)) ?_
    refine x_nmI fun I4 hI4 => ?_
    refine x_aload_n 44 dX1_keep_43 rfl rfl ?_
    refine x_aload_n 45 dX1_keep_44 rfl rfl ?_
    refine x_geti 48 dX1_keep_45 rfl fl_X1_430 (hk.l6 (by omega)) ?_
    refine x_puti 51 dX1_keep_48 rfl fl_X1_394 rfl rfl (hk.l6 (by omega)) ?_
    refine x_nmI fun I5 hI5 => ?_
    refine x_iconst (v := 0) 52 dX1_keep_51 rfl rfl ?_
    refine x_istore_n 53 [(1, .ref (T.ad 0 0)), (1, .ref (T.ad 6 i)), (1, .int w), (1, .int 0)] dX1_keep_52 rfl (by decide) rfl ?_
    have eK : I5 = kKp0 I i := by rw [hI5, hI4, hI3, hI2, hI1]; unfold kKp0; simp only [xu_k, ne_eq, Nat.reduceEqDiff, not_false_eq_true]; first | rw [if_pos c5] | rw [if_neg c5]
    rw [eK]
    have e17 : kKp0 I i 6 i 17 = I 6 i 24 := xu_eq
    have e39 : kKp0 I i 39 i = I 39 i := by funext k_; unfold kKp0; rw [xu_c (by decide), xu_c (by decide), xu_c (by decide), xu_c (by decide), xu_c (by decide)]
    refine l_X1_keep hk hi (m := iN (I 6 i 24)) ⟨by rw [e17]; exact hnm.1, hnm.2⟩ ?_ 0 _ (by omega) (by omega) (xfil_0 _ _ _ _ _).symm
    rw [e39]
    exact hx
/-- a head with a sequence and no blocks -/
def kHd0 (I : xI) (sq : Int32) : xI := xu (xur I 30 0 (hb0 sq)) 1 0 1 0
def kHdC (I : xI) : xI := xfil (kHd0 I (I 5 0 8)) 30 0 120 128 (hbS (sumF (fun j => kHd0 I (I 5 0 8) 30 0 (0 + j)) 0 120))
def kClrH (I : xI) (D : Nat) : xI := kDW (kHdC I) (1 + D) (kHdC I 30 0) 0
theorem kHdC_c {I : xI} {c i k : Nat} (h1 : c ≠ 1) (h30 : c ≠ 30) : kHdC I c i k = I c i k := by unfold kHdC kHd0; rw [xfil_c h30, xu_c h1, xur_c h30]
theorem kBw.hdc {I : xI} {B : Nat} (h : kBw I B) : kBw (kHdC I) B := by
  unfold kHdC kHd0 xfil; exact ((h.ur (fun _ => rfl) (by decide)).u rfl (by omega)).ur (fun _ => rfl) (by decide)
theorem KD.hdc {I : xI} {N B D Lg : Nat} (h : KD I N B D Lg) : KD (kHdC I) N B D Lg := by
  unfold kHdC kHd0 xfil; exact ((h.ur (by decide)).u (by omega)).ur (by decide)
theorem kBw.clrh {I : xI} {B D : Nat} (h : kBw I B) : kBw (kClrH I D) B := by unfold kClrH; exact h.hdc.dw
theorem KD.clrh {I : xI} {N B D Lg D' : Nat} (h : KD I N B D Lg) : KD (kClrH I D') N B D Lg := by unfold kClrH; exact h.hdc.dw
theorem dX1_clearHead_0 : decode cX1_clearHead 0 = .ok (.aload_n 0, 1) := by decide +kernel
theorem dX1_clearHead_1 : decode cX1_clearHead 1 = .ok (.getfield 19, 3) := by decide +kernel
theorem dX1_clearHead_4 : decode cX1_clearHead 4 = .ok (.aload_n 0, 1) := by decide +kernel
theorem dX1_clearHead_5 : decode cX1_clearHead 5 = .ok (.getfield 92, 3) := by decide +kernel
theorem dX1_clearHead_8 : decode cX1_clearHead 8 = .ok (.getfield 164, 3) := by decide +kernel
theorem dX1_clearHead_11 : decode cX1_clearHead 11 = .ok (.invokevirtual 134, 3) := by decide +kernel
theorem dX1_clearHead_14 : decode cX1_clearHead 14 = .ok (.aload_n 0, 1) := by decide +kernel
theorem dX1_clearHead_15 : decode cX1_clearHead 15 = .ok (.getfield 19, 3) := by decide +kernel
theorem dX1_clearHead_18 : decode cX1_clearHead 18 = .ok (.aload_n 0, 1) := by decide +kernel
theorem dX1_clearHead_19 : decode cX1_clearHead 19 = .ok (.getfield 92, 3) := by decide +kernel
theorem dX1_clearHead_22 : decode cX1_clearHead 22 = .ok (.lconst 0, 1) := by decide +kernel
theorem dX1_clearHead_23 : decode cX1_clearHead 23 = .ok (.aload_n 0, 1) := by decide +kernel
theorem dX1_clearHead_24 : decode cX1_clearHead 24 = .ok (.getfield 19, 3) := by decide +kernel
theorem dX1_clearHead_27 : decode cX1_clearHead 27 = .ok (.getfield 136, 3) := by decide +kernel
theorem dX1_clearHead_30 : decode cX1_clearHead 30 = .ok (.iconst 0, 1) := by decide +kernel
theorem dX1_clearHead_31 : decode cX1_clearHead 31 = .ok (.bipush 120, 2) := by decide +kernel
theorem dX1_clearHead_33 : decode cX1_clearHead 33 = .ok (.invokevirtual 137, 3) := by decide +kernel
theorem dX1_clearHead_36 : decode cX1_clearHead 36 = .ok (.invokevirtual 141, 3) := by decide +kernel
theorem dX1_clearHead_39 : decode cX1_clearHead 39 = .ok (.aload_n 0, 1) := by decide +kernel
theorem dX1_clearHead_40 : decode cX1_clearHead 40 = .ok (.getfield 92, 3) := by decide +kernel
theorem dX1_clearHead_43 : decode cX1_clearHead 43 = .ok (.aload_n 0, 1) := by decide +kernel
theorem dX1_clearHead_44 : decode cX1_clearHead 44 = .ok (.getfield 92, 3) := by decide +kernel
theorem dX1_clearHead_47 : decode cX1_clearHead 47 = .ok (.invokevirtual 145, 3) := by decide +kernel
theorem dX1_clearHead_50 : decode cX1_clearHead 50 = .ok (.aload_n 0, 1) := by decide +kernel
theorem dX1_clearHead_51 : decode cX1_clearHead 51 = .ok (.getfield 19, 3) := by decide +kernel
theorem dX1_clearHead_54 : decode cX1_clearHead 54 = .ok (.getfield 136, 3) := by decide +kernel
theorem dX1_clearHead_57 : decode cX1_clearHead 57 = .ok (.iconst 0, 1) := by decide +kernel
theorem dX1_clearHead_58 : decode cX1_clearHead 58 = .ok (.invokevirtual 489, 3) := by decide +kernel
theorem dX1_clearHead_61 : decode cX1_clearHead 61 = .ok (.ireturn, 1) := by decide +kernel
set_option maxHeartbeats 4000000 in
set_option maxRecDepth 100000 in
theorem c_X1_clearHead {G : xG} {n : Nat} {Q : Outcome → xS → Prop} {I : xI} {J : xJ} {R Z : xR} {T : xT} {N B D Lg : Nat} (hk : KS Z T N B) (hd : KD I N B D Lg) (hw : kBw I B) (hn : 3 ≤ n) (hq : Q (.returned (some (.int (b2i (¬ I 5 0 5 = 1))))) (kClrH I D, J, R, Z, T)) : xCall G mX1_clearHead n [.ref (T.ad 0 0)] (I, J, R, Z, T) Q := by
  refine x_met (L0 := [(1, .ref (T.ad 0 0))]) (by decide +kernel) rfl ⟨Nat.le_of_ble_eq_true rfl, rfl⟩ ?_
  have hdn := hd.n
  refine x_aload_n 1 dX1_clearHead_0 rfl rfl ?_
  refine x_getz 4 dX1_clearHead_1 rfl fl_X1_19 (hk.l0 (by omega)) (hk.z0_1 (by omega)) ?_
  refine x_aload_n 5 dX1_clearHead_4 rfl rfl ?_
  refine x_getz 8 dX1_clearHead_5 rfl fl_X1_92 (hk.l0 (by omega)) (hk.z0_0 (by omega)) ?_
  refine x_geti 11 dX1_clearHead_8 rfl fl_X1_164 (hk.l5 (by omega)) ?_
  refine x_callV (as := [.int (I 5 0 8)]) (rest := []) (i := 0) (n' := n - 1) 14 dX1_clearHead_11 rfl mv_X1_134 rfl rfl (hk.l1 (by omega)) (xnh rfl) (by omega) (xst (Nat.le_of_ble_eq_true rfl)) (c_X2_begin hk (by omega) ?_)
  change X _ _ _ _ _ _ _ _ _ _
  refine x_aload_n 15 dX1_clearHead_14 rfl rfl ?_
  refine x_getz 18 dX1_clearHead_15 rfl fl_X1_19 (hk.l0 (by omega)) (hk.z0_1 (by omega)) ?_
  refine x_aload_n 19 dX1_clearHead_18 rfl rfl ?_
  refine x_getz 22 dX1_clearHead_19 rfl fl_X1_92 (hk.l0 (by omega)) (hk.z0_0 (by omega)) ?_
  refine x_lconst (v := 0) 23 dX1_clearHead_22 rfl rfl ?_
  refine x_aload_n 24 dX1_clearHead_23 rfl rfl ?_
  refine x_getz 27 dX1_clearHead_24 rfl fl_X1_19 (hk.l0 (by omega)) (hk.z0_1 (by omega)) ?_
  refine x_getz 30 dX1_clearHead_27 rfl fl_X1_136 (hk.l1 (by omega)) (hk.z1_0 (by omega)) ?_
  refine x_iconst (v := 0) 31 dX1_clearHead_30 rfl rfl ?_
  refine x_bipush (v := 120) 33 dX1_clearHead_31 rfl rfl ?_
  refine x_callV (as := [.long 0, .ref (T.ad 30 0), .int (nI 0), .int (nI 120)]) (rest := [.ref (T.ad 1 0)]) (i := 0) (n' := n - 1) 36 dX1_clearHead_33 rfl mv_X1_137 rfl rfl (hk.l5 (by omega)) (xnh rfl) (by omega) (xst (Nat.le_of_ble_eq_true rfl)) (c_X6_sum hk ar_30 (hk.l30 (by omega)) ⟨(by rw [(hk.n30 (by omega))]; omega), by omega⟩ (by omega) ?_)
  change X _ _ _ _ _ _ _ _ _ _
  refine x_callV (as := [.long (sumF (fun j => (xu (xur I 30 0 (hb0 (I 5 0 8))) 1 0 1 0) 30 0 (0 + j)) 0 120)]) (rest := []) (i := 0) (n' := n - 1) 39 dX1_clearHead_36 rfl mv_X1_141 rfl rfl (hk.l1 (by omega)) (xnh rfl) (by omega) (xst (Nat.le_of_ble_eq_true rfl)) (c_X2_end hk (by omega) ?_)
  change X _ _ _ _ _ _ _ _ _ _
  refine x_aload_n 40 dX1_clearHead_39 rfl rfl ?_
  refine x_getz 43 dX1_clearHead_40 rfl fl_X1_92 (hk.l0 (by omega)) (hk.z0_0 (by omega)) ?_
  refine x_aload_n 44 dX1_clearHead_43 rfl rfl ?_
  refine x_getz 47 dX1_clearHead_44 rfl fl_X1_92 (hk.l0 (by omega)) (hk.z0_0 (by omega)) ?_
  have eh0 : (xfil (xu (xur I 30 0 (hb0 (I 5 0 8))) 1 0 1 0) 30 0 120 128 (hbS (sumF (fun j => (xu (xur I 30 0 (hb0 (I 5 0 8))) 1 0 1 0) 30 0 (0 + j)) 0 120))) = kHdC I := rfl
  refine x_callV (as := []) (rest := [.ref (T.ad 5 0)]) (i := 0) (n' := n - 1) 50 dX1_clearHead_47 rfl mv_X1_145 rfl rfl (hk.l5 (by omega)) (xnh rfl) (by omega) (xst (Nat.le_of_ble_eq_true rfl)) (c_X6_head hk (show KD (xfil (xu (xur I 30 0 (hb0 (I 5 0 8))) 1 0 1 0) 30 0 120 128 (hbS (sumF (fun j => (xu (xur I 30 0 (hb0 (I 5 0 8))) 1 0 1 0) 30 0 (0 + j)) 0 120))) N B D Lg from hd.hdc) (by omega) ?_)
  change X _ _ _ _ _ _ _ _ _ _
  refine x_aload_n 51 dX1_clearHead_50 rfl rfl ?_
  refine x_getz 54 dX1_clearHead_51 rfl fl_X1_19 (hk.l0 (by omega)) (hk.z0_1 (by omega)) ?_
  refine x_getz 57 dX1_clearHead_54 rfl fl_X1_136 (hk.l1 (by omega)) (hk.z1_0 (by omega)) ?_
  refine x_iconst (v := 0) 58 dX1_clearHead_57 rfl rfl ?_
  have eh : (xfil (xu (xur I 30 0 (hb0 (I 5 0 8))) 1 0 1 0) 30 0 120 128 (hbS (sumF (fun j => (xu (xur I 30 0 (hb0 (I 5 0 8))) 1 0 1 0) 30 0 (0 + j)) 0 120))) = kHdC I := rfl
  rw [eh]
  refine x_callV (as := [.int (nI (1 + D)), .ref (T.ad 30 0), .int (nI 0)]) (rest := []) (i := 0) (n' := n - 1) 61 dX1_clearHead_58 rfl mv_X1_489 rfl rfl (hk.l5 (by omega)) (xnh rfl) (by omega) (xst (Nat.le_of_ble_eq_true rfl)) (c_X6_write (I := kHdC I) hk hw.hdc (by omega) ar_30 (hk.l30 (by omega)) (by decide) (by decide) ⟨by rw [hk.n30 (by omega)]; omega, by omega⟩ (by omega) ?_)
  change X _ _ _ _ _ _ _ _ _ _
  refine x_zreturn dX1_clearHead_61 rfl (b2i_01 _) ?_
  rw [kHdC_c (by decide) (by decide)]; exact hq
noncomputable def kLayA (B D Lg i : Nat) (I : xI) : xI := if I 6 i 24 = 10 then xu (kTkI B D Lg I) 6 i 25 (oI (kTk B D Lg I)) else I
noncomputable def kLay1 (B D Lg i : Nat) (I : xI) : Bool × xI :=
  cif (I 6 i 24 = 10 ∧ kTk B D Lg I = none) (false, kLayA B D Lg i I)
    (match kTk B D Lg (kLayA B D Lg i I) with
      | none => (false, kLayA B D Lg i I)
      | some b => (true, xu (xu (xu (kLayA B D Lg i I) 22 0 b 1) 6 i 24 (nI (iN (I 6 i 24) + 1))) 39 i (iN (I 6 i 24)) (nI b)))
noncomputable def kLayN (B D Lg i : Nat) : Nat → xI → Bool × xI
  | 0, I => (true, I)
  | n + 1, I => match kLay1 B D Lg i I with
    | (true, I') => kLayN B D Lg i n I'
    | (false, I') => (false, I')
def kLayE (i need : Nat) (I : xI) : xI := if need ≤ 10 then xu (xu I 6 i 24 (nI need)) 6 i 25 0 else xu I 6 i 24 (nI need)
/-- blocks are laid for an inode; whether there are enough -/
noncomputable def kLay (B D Lg i : Nat) (I : xI) : Bool × xI :=
  match kLayN B D Lg i ((iN (I 6 i 22) + 128 - 1) / 128 - iN (I 6 i 24)) I with
  | (true, I') => (true, kLayE i ((iN (I 6 i 22) + 128 - 1) / 128) I')
  | (false, I') => (false, I')
def oIf (b : Bool) : Int32 := cond b 1 0
theorem kTkI_n {B D Lg : Nat} {I : xI} (h : kTk B D Lg I = none) : kTkI B D Lg I = I := by unfold kTkI; rw [h]
theorem kTkI_s {B D Lg k : Nat} {I : xI} (h : kTk B D Lg I = some k) : kTkI B D Lg I = xu I 22 0 k 1 := by unfold kTkI; rw [h]
theorem kTkI_c {B D Lg c i k : Nat} {I : xI} (h : c ≠ 22) : kTkI B D Lg I c i k = I c i k := by
  unfold kTkI
  cases kTk B D Lg I with
  | none => rfl
  | some b => exact xu_c h
theorem kLayA_w {B D Lg i : Nat} {I : xI} {N : Nat} (hd : KD I N B D Lg) (hw : kBw I B) : KD (kLayA B D Lg i I) N B D Lg ∧ kBw (kLayA B D Lg i I) B := by
  unfold kLayA; split
  · refine ⟨hd.tk.u (by omega), hw.tk.ui ?_⟩
    cases e : kTk B D Lg I with
    | none => exact Or.inl rfl
    | some k => have := kTk_lt e; have := hd.n; exact Or.inr (kLn.of (by omega) (by omega))
  · exact ⟨hd, hw⟩
theorem kLayA_k {B D Lg i j k : Nat} {I : xI} (h : k ≠ 25) : kLayA B D Lg i I 6 j k = I 6 j k := by
  unfold kLayA; split
  · rw [xu_k h, kTkI_c (by decide)]
  · rfl
theorem dX1_lay_0 : decode cX1_lay 0 = .ok (.aload_n 1, 1) := by decide +kernel
theorem dX1_lay_1 : decode cX1_lay 1 = .ok (.getfield 418, 3) := by decide +kernel
theorem dX1_lay_4 : decode cX1_lay 4 = .ok (.sipush 128, 3) := by decide +kernel
theorem dX1_lay_7 : decode cX1_lay 7 = .ok (.iadd, 1) := by decide +kernel
theorem dX1_lay_8 : decode cX1_lay 8 = .ok (.iconst 1, 1) := by decide +kernel
theorem dX1_lay_9 : decode cX1_lay 9 = .ok (.isub, 1) := by decide +kernel
theorem dX1_lay_10 : decode cX1_lay 10 = .ok (.sipush 128, 3) := by decide +kernel
theorem dX1_lay_13 : decode cX1_lay 13 = .ok (.idiv, 1) := by decide +kernel
theorem dX1_lay_14 : decode cX1_lay 14 = .ok (.istore_n 2, 1) := by decide +kernel
theorem dX1_lay_15 : decode cX1_lay 15 = .ok (.aload_n 1, 1) := by decide +kernel
theorem dX1_lay_16 : decode cX1_lay 16 = .ok (.getfield 430, 3) := by decide +kernel
theorem dX1_lay_19 : decode cX1_lay 19 = .ok (.iload_n 2, 1) := by decide +kernel
theorem dX1_lay_20 : decode cX1_lay 20 = .ok (.if_icmp .ge 62, 3) := by decide +kernel
theorem dX1_lay_23 : decode cX1_lay 23 = .ok (.aload_n 1, 1) := by decide +kernel
theorem dX1_lay_24 : decode cX1_lay 24 = .ok (.getfield 430, 3) := by decide +kernel
theorem dX1_lay_27 : decode cX1_lay 27 = .ok (.bipush 10, 2) := by decide +kernel
theorem dX1_lay_29 : decode cX1_lay 29 = .ok (.if_icmp .ne 21, 3) := by decide +kernel
theorem dX1_lay_32 : decode cX1_lay 32 = .ok (.aload_n 1, 1) := by decide +kernel
theorem dX1_lay_33 : decode cX1_lay 33 = .ok (.aload_n 0, 1) := by decide +kernel
theorem dX1_lay_34 : decode cX1_lay 34 = .ok (.invokevirtual 445, 3) := by decide +kernel
theorem dX1_lay_37 : decode cX1_lay 37 = .ok (.putfield 433, 3) := by decide +kernel
theorem dX1_lay_40 : decode cX1_lay 40 = .ok (.aload_n 1, 1) := by decide +kernel
theorem dX1_lay_41 : decode cX1_lay 41 = .ok (.getfield 433, 3) := by decide +kernel
theorem dX1_lay_44 : decode cX1_lay 44 = .ok (.iconst (-1), 1) := by decide +kernel
theorem dX1_lay_45 : decode cX1_lay 45 = .ok (.if_icmp .ne 5, 3) := by decide +kernel
theorem dX1_lay_48 : decode cX1_lay 48 = .ok (.iconst 0, 1) := by decide +kernel
theorem dX1_lay_49 : decode cX1_lay 49 = .ok (.ireturn, 1) := by decide +kernel
theorem dX1_lay_50 : decode cX1_lay 50 = .ok (.aload_n 0, 1) := by decide +kernel
theorem dX1_lay_51 : decode cX1_lay 51 = .ok (.invokevirtual 445, 3) := by decide +kernel
theorem dX1_lay_54 : decode cX1_lay 54 = .ok (.istore_n 3, 1) := by decide +kernel
theorem dX1_lay_55 : decode cX1_lay 55 = .ok (.iload_n 3, 1) := by decide +kernel
theorem dX1_lay_56 : decode cX1_lay 56 = .ok (.iconst (-1), 1) := by decide +kernel
theorem dX1_lay_57 : decode cX1_lay 57 = .ok (.if_icmp .ne 5, 3) := by decide +kernel
theorem dX1_lay_60 : decode cX1_lay 60 = .ok (.iconst 0, 1) := by decide +kernel
theorem dX1_lay_61 : decode cX1_lay 61 = .ok (.ireturn, 1) := by decide +kernel
theorem dX1_lay_62 : decode cX1_lay 62 = .ok (.aload_n 1, 1) := by decide +kernel
theorem dX1_lay_63 : decode cX1_lay 63 = .ok (.getfield 436, 3) := by decide +kernel
theorem dX1_lay_66 : decode cX1_lay 66 = .ok (.aload_n 1, 1) := by decide +kernel
theorem dX1_lay_67 : decode cX1_lay 67 = .ok (.dup, 1) := by decide +kernel
theorem dX1_lay_68 : decode cX1_lay 68 = .ok (.getfield 430, 3) := by decide +kernel
theorem dX1_lay_71 : decode cX1_lay 71 = .ok (.dup_x1, 1) := by decide +kernel
theorem dX1_lay_72 : decode cX1_lay 72 = .ok (.iconst 1, 1) := by decide +kernel
theorem dX1_lay_73 : decode cX1_lay 73 = .ok (.iadd, 1) := by decide +kernel
theorem dX1_lay_74 : decode cX1_lay 74 = .ok (.putfield 430, 3) := by decide +kernel
theorem dX1_lay_77 : decode cX1_lay 77 = .ok (.iload_n 3, 1) := by decide +kernel
theorem dX1_lay_78 : decode cX1_lay 78 = .ok (.iastore, 1) := by decide +kernel
theorem dX1_lay_79 : decode cX1_lay 79 = .ok (.goto (-64), 3) := by decide +kernel
theorem dX1_lay_82 : decode cX1_lay 82 = .ok (.aload_n 1, 1) := by decide +kernel
theorem dX1_lay_83 : decode cX1_lay 83 = .ok (.iload_n 2, 1) := by decide +kernel
theorem dX1_lay_84 : decode cX1_lay 84 = .ok (.putfield 430, 3) := by decide +kernel
theorem dX1_lay_87 : decode cX1_lay 87 = .ok (.iload_n 2, 1) := by decide +kernel
theorem dX1_lay_88 : decode cX1_lay 88 = .ok (.bipush 10, 2) := by decide +kernel
theorem dX1_lay_90 : decode cX1_lay 90 = .ok (.if_icmp .gt 8, 3) := by decide +kernel
theorem dX1_lay_93 : decode cX1_lay 93 = .ok (.aload_n 1, 1) := by decide +kernel
theorem dX1_lay_94 : decode cX1_lay 94 = .ok (.iconst 0, 1) := by decide +kernel
theorem dX1_lay_95 : decode cX1_lay 95 = .ok (.putfield 433, 3) := by decide +kernel
theorem dX1_lay_98 : decode cX1_lay 98 = .ok (.iconst 1, 1) := by decide +kernel
theorem dX1_lay_99 : decode cX1_lay 99 = .ok (.ireturn, 1) := by decide +kernel
set_option maxHeartbeats 4000000 in
set_option maxRecDepth 100000 in
theorem l_X1_lay {G : xG} {n a b : Nat} {Q : Outcome → xS → Prop} {J : xJ} {Z : xR} {T : xT} {R : xR} {I0 : xI} {N B D Lg : Nat} (hk : KS Z T N B) {i nd m0 : Nat} (hi : i < N) (hnd : nd ≤ 64) (hx : ∀ I' : xI, kLayN B D Lg i (nd - m0) I0 = (true, I') → KD I' N B D Lg → kBw I' B → X G mX1_lay n a b Q (I', J, R, Z, T) 82 [(1, .ref (T.ad 0 0)), (1, .ref (T.ad 6 i)), (1, .int (nI nd)), xo] []) (hq : ∀ I' : xI, kLayN B D Lg i (nd - m0) I0 = (false, I') → Q (.returned (some (.int 0))) (I', J, R, Z, T)) (hn : 3 ≤ n) (m : Nat) (I : xI) :
    m ≤ 64 → I 6 i 24 = nI m → KD I N B D Lg → kBw I B → kLayN B D Lg i (nd - m0) I0 = kLayN B D Lg i (nd - m) I → X G mX1_lay n a b Q (I, J, R, Z, T) 15 [(1, .ref (T.ad 0 0)), (1, .ref (T.ad 6 i)), (1, .int (nI nd)), xo] [] := by
  induction hm : 64 - m using Nat.strongRecOn generalizing m I with
  | _ m_ ih =>
    intro hm64 hmm hd hw hK
    have hnb0 := hk.nb
    have hnb := hk.nb
    have hdn := hd.n
    refine x_aload_n 16 dX1_lay_15 rfl rfl ?_
    refine x_geti 19 dX1_lay_16 rfl fl_X1_430 (hk.l6 (by omega)) ?_
    refine x_vi (w := nI m) hmm ?_
    refine x_iload_n 20 dX1_lay_19 rfl rfl ?_
    refine x_icmp_ge 82 23 dX1_lay_20 (by decide) rfl (fun c20 => ?_) (fun c20 => ?_)
    · skip
      have c20 : nd ≤ m := (nI_leI (a := nd) (b := m) (by omega) (by omega)).mp c20
      refine hx I ?_ hd hw
      rw [hK, show nd - m = 0 by omega]; rfl
    · skip
      have c20 : ¬ (nd ≤ m) := fun h => c20 ((nI_leI (a := nd) (b := m) (by omega) (by omega)).mpr h)
      have hun : kLayN B D Lg i (nd - m) I = (match kLay1 B D Lg i I with | (true, I') => kLayN B D Lg i (nd - (m + 1)) I' | (false, I') => (false, I')) := by rw [show nd - m = nd - (m + 1) + 1 by omega]; rfl
      have hA := kLayA_w (i := i) hd hw
      have h50 : (¬ (I 6 i 24 = 10 ∧ kTk B D Lg I = none)) → X G mX1_lay n a b Q ((kLayA B D Lg i I), J, R, Z, T) 50 [(1, .ref (T.ad 0 0)), (1, .ref (T.ad 6 i)), (1, .int (nI nd)), xo] [] := by
        intro hno
        refine x_aload_n 51 dX1_lay_50 rfl rfl ?_
        refine x_callV (as := []) (rest := []) (i := 0) (n' := n - 1) 54 dX1_lay_51 rfl mv_X1_445 rfl rfl (hk.l0 (by omega)) (xnh rfl) (by omega) (xst (Nat.le_of_ble_eq_true rfl)) (c_X1_takeBlock (I := (kLayA B D Lg i I)) hk hA.1 (by omega) ?_)
        · skip
          rcases htk : kTk B D Lg (kLayA B D Lg i I) with _ | tb
          · rw [kTkI_n htk]
            change X _ _ _ _ _ _ _ _ _ _
            have hl0 : kLay1 B D Lg i I = (false, (kLayA B D Lg i I)) := by unfold kLay1; rw [cif_f hno]; rw [htk]
            refine x_istore_n 55 [(1, .ref (T.ad 0 0)), (1, .ref (T.ad 6 i)), (1, .int (nI nd)), (1, .int (-1))] dX1_lay_54 rfl (by decide) rfl ?_
            refine x_iload_n 56 dX1_lay_55 rfl rfl ?_
            refine x_iconst (v := -1) 57 dX1_lay_56 rfl rfl ?_
            refine x_icmp_ne 62 60 dX1_lay_57 (by decide) rfl (fun c57 => ?_) (fun c57 => ?_)
            · skip
              exfalso; revert c57; decide
            · skip
              refine x_iconst (v := 0) 61 dX1_lay_60 rfl rfl ?_
              refine x_zreturn dX1_lay_61 rfl (Or.inl rfl) ?_
              exact hq _ (by rw [hK, hun, hl0])
          · rw [kTkI_s htk]
            have htl := kTk_lt htk
            change X _ _ _ _ _ _ _ _ _ _
            have hl1 : kLay1 B D Lg i I = (true, xu (xu (xu (kLayA B D Lg i I) 22 0 tb 1) 6 i 24 (nI (m + 1))) 39 i m (nI tb)) := by unfold kLay1; rw [cif_f hno, htk, hmm, iN_nI (by omega)]
            refine x_istore_n 55 [(1, .ref (T.ad 0 0)), (1, .ref (T.ad 6 i)), (1, .int (nI nd)), (1, .int (nI tb))] dX1_lay_54 rfl (by decide) rfl ?_
            refine x_iload_n 56 dX1_lay_55 rfl rfl ?_
            refine x_iconst (v := -1) 57 dX1_lay_56 rfl rfl ?_
            refine x_icmp_ne 62 60 dX1_lay_57 (by decide) rfl (fun c57 => ?_) (fun c57 => ?_)
            · skip
              refine x_aload_n 63 dX1_lay_62 rfl rfl ?_
              refine x_getz 66 dX1_lay_63 rfl fl_X1_436 (hk.l6 (by omega)) (hk.z6_23 (by omega)) ?_
              refine x_aload_n 67 dX1_lay_66 rfl rfl ?_
              refine x_dup 68 dX1_lay_67 rfl rfl ?_
              refine x_geti 71 dX1_lay_68 rfl fl_X1_430 (hk.l6 (by omega)) ?_
              refine x_vi (w := nI m) (by rw [xu_c (by decide), kLayA_k (by decide)]; exact hmm) ?_
              refine x_dup_x1 72 dX1_lay_71 rfl rfl rfl ?_
              refine x_iconst (v := 1) 73 dX1_lay_72 rfl rfl ?_
              refine x_iaddn m 1 74 dX1_lay_73 rfl rfl rfl ?_
              refine x_puti 77 dX1_lay_74 rfl fl_X1_430 rfl rfl (hk.l6 (by omega)) ?_
              refine x_nmI fun I1 hI1 => ?_
              refine x_iload_n 78 dX1_lay_77 rfl rfl ?_
              refine x_iast 79 dX1_lay_78 rfl ar_39 (by decide) (by decide) (hk.l39 (by omega)) (xb (hk.n39 (by omega)) (by omega) (by omega)) ?_
              refine x_nmI fun I2 hI2 => ?_
              refine x_goto 15 dX1_lay_79 (by decide) ?_
              refine x_fgt [(1, .ref (T.ad 0 0)), (1, .ref (T.ad 6 i)), (1, .int (nI nd)), xo] ⟨Or.inr rfl, Or.inr rfl, Or.inr rfl, Or.inl rfl, trivial⟩ ?_
              have e3 : I2 = xu (xu (xu (kLayA B D Lg i I) 22 0 tb 1) 6 i 24 (nI (m + 1))) 39 i m (nI tb) := by rw [hI2, hI1]
              refine ih _ (by rw [← hm]; omega) (m + 1) I2 rfl (by omega) ?_ ?_ ?_ ?_
              · rw [e3, xu_c (by decide), xu_eq]
              · rw [e3]; exact ((hA.1.u (by omega)).u (by omega)).u (by omega)
              · rw [e3]; exact ((hA.2.u rfl (by omega)).ul rfl (kLn.of (by omega) (by omega)) (by omega)).ul rfl (kLn.of (by omega) (by omega)) (by omega)
              · rw [e3, hK, hun, hl1]
            · skip
              exact absurd c57 (nI_m1 (by omega))
      refine x_aload_n 24 dX1_lay_23 rfl rfl ?_
      refine x_geti 27 dX1_lay_24 rfl fl_X1_430 (hk.l6 (by omega)) ?_
      refine x_vi (w := nI m) hmm ?_
      refine x_bipush (v := 10) 29 dX1_lay_27 rfl rfl ?_
      refine x_icmp_ne 50 32 dX1_lay_29 (by decide) rfl (fun c29 => ?_) (fun c29 => ?_)
      · skip
        have c29 : ¬ (m = 10) := fun h => c29 ((nI_eq (a := m) (b := 10) (by omega) (by omega)).mpr h)
        have eA : (kLayA B D Lg i I) = I := by unfold kLayA; rw [if_neg (by rw [hmm]; exact fun e => c29 ((nI_eq (a := m) (b := 10) (by omega) (by omega)).mp e))]
        rw [eA] at h50; exact h50 (fun h => c29 ((nI_eq (a := m) (b := 10) (by omega) (by omega)).mp (by rw [← hmm]; exact h.1)))
      · skip
        have c29 : m = 10 := (nI_eq (a := m) (b := 10) (by omega) (by omega)).mp c29
        have h10 : I 6 i 24 = 10 := by rw [hmm]; exact congrArg nI c29
        refine x_aload_n 33 dX1_lay_32 rfl rfl ?_
        refine x_aload_n 34 dX1_lay_33 rfl rfl ?_
        refine x_callV (as := []) (rest := [.ref (T.ad 6 i)]) (i := 0) (n' := n - 1) 37 dX1_lay_34 rfl mv_X1_445 rfl rfl (hk.l0 (by omega)) (xnh rfl) (by omega) (xst (Nat.le_of_ble_eq_true rfl)) (c_X1_takeBlock hk hd (by omega) ?_)
        · skip
          rcases htk : kTk B D Lg I with _ | tb
          · rw [kTkI_n htk]
            change X _ _ _ _ _ _ _ _ _ _
            refine x_puti 40 dX1_lay_37 rfl fl_X1_433 rfl rfl (hk.l6 (by omega)) ?_
            refine x_nmI fun I1 hI1 => ?_
            have eA : I1 = kLayA B D Lg i I := by rw [hI1]; unfold kLayA; rw [if_pos h10, kTkI_n htk, htk]
            have hl0 : kLay1 B D Lg i I = (false, I1) := by unfold kLay1; rw [cif_t ⟨h10, htk⟩, eA]
            refine x_aload_n 41 dX1_lay_40 rfl rfl ?_
            refine x_geti 44 dX1_lay_41 rfl fl_X1_433 (hk.l6 (by omega)) ?_
            refine x_iconst (v := -1) 45 dX1_lay_44 rfl rfl ?_
            refine x_icmp_ne 50 48 dX1_lay_45 (by decide) rfl (fun c45 => ?_) (fun c45 => ?_)
            · skip
              exact absurd (by rw [hI1, xu_eq]; rfl) c45
            · skip
              refine x_iconst (v := 0) 49 dX1_lay_48 rfl rfl ?_
              refine x_zreturn dX1_lay_49 rfl (Or.inl rfl) ?_
              exact hq _ (by rw [hK, hun, hl0])
          · change X _ _ _ _ _ _ _ _ _ _
            refine x_puti 40 dX1_lay_37 rfl fl_X1_433 rfl rfl (hk.l6 (by omega)) ?_
            refine x_nmI fun I1 hI1 => ?_
            have eA : I1 = kLayA B D Lg i I := by rw [hI1]; unfold kLayA; rw [if_pos h10, htk]
            refine x_aload_n 41 dX1_lay_40 rfl rfl ?_
            refine x_geti 44 dX1_lay_41 rfl fl_X1_433 (hk.l6 (by omega)) ?_
            refine x_iconst (v := -1) 45 dX1_lay_44 rfl rfl ?_
            refine x_icmp_ne 50 48 dX1_lay_45 (by decide) rfl (fun c45 => ?_) (fun c45 => ?_)
            · skip
              rw [eA]; exact h50 (fun h => by rw [htk] at h; exact absurd h.2 (by simp))
            · skip
              exact absurd (show nI tb = -1 by rw [hI1, xu_eq] at c45; exact c45) (nI_m1 (by have := kTk_lt htk; omega))
set_option maxHeartbeats 4000000 in
set_option maxRecDepth 100000 in
theorem c_X1_lay {G : xG} {n : Nat} {Q : Outcome → xS → Prop} {I : xI} {J : xJ} {R Z : xR} {T : xT} {N B D Lg : Nat} (hk : KS Z T N B) (hd : KD I N B D Lg) (hw : kBw I B) {i : Nat} (hi : i < N) (hn : 3 ≤ n) (hq : Q (.returned (some (.int (oIf (kLay B D Lg i I).1)))) ((kLay B D Lg i I).2, J, R, Z, T)) : xCall G mX1_lay n [.ref (T.ad 0 0), .ref (T.ad 6 i)] (I, J, R, Z, T) Q := by
  refine x_met (L0 := [(1, .ref (T.ad 0 0)), (1, .ref (T.ad 6 i)), xo, xo]) (by decide +kernel) rfl ⟨Nat.le_of_ble_eq_true rfl, rfl⟩ ?_
  have hnb := hk.nb
  have hdn := hd.n
  have hnl := hw.nl i
  have hnl2 := hnl.2
  refine x_aload_n 1 dX1_lay_0 rfl rfl ?_
  refine x_geti 4 dX1_lay_1 rfl fl_X1_418 (hk.l6 (by omega)) ?_
  refine x_vi (w := nI (iN (I 6 i 22))) hnl.1 ?_
  refine x_sipush (v := 128) 7 dX1_lay_4 rfl rfl ?_
  refine x_iaddn (iN (I 6 i 22)) 128 8 dX1_lay_7 rfl rfl rfl ?_
  refine x_iconst (v := 1) 9 dX1_lay_8 rfl rfl ?_
  refine x_isubn ((iN (I 6 i 22)) + 128) 1 10 dX1_lay_9 rfl rfl rfl (by omega) ?_
  refine x_sipush (v := 128) 13 dX1_lay_10 rfl rfl ?_
  refine x_idivn (((iN (I 6 i 22)) + 128) - 1) 128 14 dX1_lay_13 rfl rfl rfl (by omega) ?_
  refine x_istore_n 15 [(1, .ref (T.ad 0 0)), (1, .ref (T.ad 6 i)), (1, .int (nI ((((iN (I 6 i 22)) + 128) - 1) / 128))), xo] dX1_lay_14 rfl (by decide) rfl ?_
  have hml := hw.nm i
  refine l_X1_lay hk hi (nd := (iN (I 6 i 22) + 128 - 1) / 128) (m0 := iN (I 6 i 24)) (by omega) ?_ ?_ hn (iN (I 6 i 24)) I hml.2 hml.1 hd hw rfl
  · intro I2 hK2 hd2 hw2
    have eL : kLay B D Lg i I = (true, kLayE i ((iN (I 6 i 22) + 128 - 1) / 128) I2) := by unfold kLay; rw [hK2]
    rw [eL] at hq
    refine x_aload_n 83 dX1_lay_82 rfl rfl ?_
    refine x_iload_n 84 dX1_lay_83 rfl rfl ?_
    refine x_puti 87 dX1_lay_84 rfl fl_X1_430 rfl rfl (hk.l6 (by omega)) ?_
    refine x_nmI fun Ia hIa => ?_
    refine x_iload_n 88 dX1_lay_87 rfl rfl ?_
    refine x_bipush (v := 10) 90 dX1_lay_88 rfl rfl ?_
    refine x_icmp_gt 98 93 dX1_lay_90 (by decide) rfl (fun c90 => ?_) (fun c90 => ?_)
    · skip
      have c90 : 10 < (iN (I 6 i 22) + 128 - 1) / 128 := (nI_ltI (a := 10) (b := (iN (I 6 i 22) + 128 - 1) / 128) (by omega) (by omega)).mp c90
      refine x_iconst (v := 1) 99 dX1_lay_98 rfl rfl ?_
      refine x_zreturn dX1_lay_99 rfl (Or.inr rfl) ?_
      have eE : Ia = kLayE i ((iN (I 6 i 22) + 128 - 1) / 128) I2 := by unfold kLayE; rw [if_neg (by omega), hIa]
      rw [eE]; exact hq
    · skip
      have c90 : ¬ (10 < (iN (I 6 i 22) + 128 - 1) / 128) := fun h => c90 ((nI_ltI (a := 10) (b := (iN (I 6 i 22) + 128 - 1) / 128) (by omega) (by omega)).mpr h)
      refine x_aload_n 94 dX1_lay_93 rfl rfl ?_
      refine x_iconst (v := 0) 95 dX1_lay_94 rfl rfl ?_
      refine x_puti 98 dX1_lay_95 rfl fl_X1_433 rfl rfl (hk.l6 (by omega)) ?_
      refine x_nmI fun Ib hIb => ?_
      refine x_iconst (v := 1) 99 dX1_lay_98 rfl rfl ?_
      refine x_zreturn dX1_lay_99 rfl (Or.inr rfl) ?_
      have eE : Ib = kLayE i ((iN (I 6 i 22) + 128 - 1) / 128) I2 := by unfold kLayE; rw [if_pos (by omega), hIb, hIa]
      rw [eE]; exact hq
  · intro I2 hK2
    have eL : kLay B D Lg i I = (false, I2) := by unfold kLay; rw [hK2]
    rw [eL] at hq
    exact hq
