set_option maxRecDepth 100000
/-! the bytes of what is finished -/
def kDsA (I : xI) (i bl s : Nat) : Nat := 128 * iN (I 39 i bl) + 16 * (s % 8)
def kDs1 (i bl : Nat) (w : Int32) (I : xI) (s : Nat) : xI :=
  xfil (put16 I 20 0 (kDsA I i bl s) (iKeptBy I i s w)) 20 0 (kDsA I i bl s + 2) (kDsA I i bl s + 16) (fun j => if iKeptBy I i s w ≤ 0 then 0 else I 43 i (14 * s + (j - (kDsA I i bl s + 2))))
def kDs (i bl : Nat) (w : Int32) (I : xI) : xI := itA (fun I k => kDs1 i bl w I (8 * bl + k)) I 8
theorem kDs1_c {i bl : Nat} {w : Int32} {I : xI} {s c p q : Nat} (h : c ≠ 20) : kDs1 i bl w I s c p q = I c p q := by unfold kDs1; rw [xfil_c h, put16_c h]
theorem kDsn_c {i bl : Nat} {w : Int32} {I : xI} {n c p q : Nat} (h : c ≠ 20) : itA (fun I k => kDs1 i bl w I (8 * bl + k)) I n c p q = I c p q := itA_c (f := fun I k => kDs1 i bl w I (8 * bl + k)) (fun A k p q => kDs1_c h) I n p q
theorem kDs_c {i bl : Nat} {w : Int32} {I : xI} {c p q : Nat} (h : c ≠ 20) : kDs i bl w I c p q = I c p q := kDsn_c h
theorem kBw.c20 {A A' : xI} {B : Nat} (h : kBw A B) (e : ∀ c p q, c ≠ 20 → A' c p q = A c p q) : kBw A' B :=
  ⟨fun c i k m g => by
    by_cases q : c = 20
    · subst q; cases g
    · rw [e _ _ _ q]; exact h.1 _ _ _ _ g, fun i => by rw [e _ _ _ (by decide)]; exact h.2 i⟩
theorem dX1_drawSlots_0 : decode cX1_drawSlots 0 = .ok (.bipush 8, 2) := by decide +kernel
theorem dX1_drawSlots_2 : decode cX1_drawSlots 2 = .ok (.iload_n 2, 1) := by decide +kernel
theorem dX1_drawSlots_3 : decode cX1_drawSlots 3 = .ok (.imul, 1) := by decide +kernel
theorem dX1_drawSlots_4 : decode cX1_drawSlots 4 = .ok (.istore 4, 2) := by decide +kernel
theorem dX1_drawSlots_6 : decode cX1_drawSlots 6 = .ok (.iload 4, 2) := by decide +kernel
theorem dX1_drawSlots_8 : decode cX1_drawSlots 8 = .ok (.bipush 8, 2) := by decide +kernel
theorem dX1_drawSlots_10 : decode cX1_drawSlots 10 = .ok (.iload_n 2, 1) := by decide +kernel
theorem dX1_drawSlots_11 : decode cX1_drawSlots 11 = .ok (.imul, 1) := by decide +kernel
theorem dX1_drawSlots_12 : decode cX1_drawSlots 12 = .ok (.bipush 8, 2) := by decide +kernel
theorem dX1_drawSlots_14 : decode cX1_drawSlots 14 = .ok (.iadd, 1) := by decide +kernel
theorem dX1_drawSlots_15 : decode cX1_drawSlots 15 = .ok (.if_icmp .ge 104, 3) := by decide +kernel
theorem dX1_drawSlots_18 : decode cX1_drawSlots 18 = .ok (.sipush 128, 3) := by decide +kernel
theorem dX1_drawSlots_21 : decode cX1_drawSlots 21 = .ok (.aload_n 1, 1) := by decide +kernel
theorem dX1_drawSlots_22 : decode cX1_drawSlots 22 = .ok (.getfield 436, 3) := by decide +kernel
theorem dX1_drawSlots_25 : decode cX1_drawSlots 25 = .ok (.iload_n 2, 1) := by decide +kernel
theorem dX1_drawSlots_26 : decode cX1_drawSlots 26 = .ok (.iaload, 1) := by decide +kernel
theorem dX1_drawSlots_27 : decode cX1_drawSlots 27 = .ok (.imul, 1) := by decide +kernel
theorem dX1_drawSlots_28 : decode cX1_drawSlots 28 = .ok (.bipush 16, 2) := by decide +kernel
theorem dX1_drawSlots_30 : decode cX1_drawSlots 30 = .ok (.iload 4, 2) := by decide +kernel
theorem dX1_drawSlots_32 : decode cX1_drawSlots 32 = .ok (.bipush 8, 2) := by decide +kernel
theorem dX1_drawSlots_34 : decode cX1_drawSlots 34 = .ok (.irem, 1) := by decide +kernel
theorem dX1_drawSlots_35 : decode cX1_drawSlots 35 = .ok (.imul, 1) := by decide +kernel
theorem dX1_drawSlots_36 : decode cX1_drawSlots 36 = .ok (.iadd, 1) := by decide +kernel
theorem dX1_drawSlots_37 : decode cX1_drawSlots 37 = .ok (.istore 5, 2) := by decide +kernel
theorem dX1_drawSlots_39 : decode cX1_drawSlots 39 = .ok (.aload_n 1, 1) := by decide +kernel
theorem dX1_drawSlots_40 : decode cX1_drawSlots 40 = .ok (.iload 4, 2) := by decide +kernel
theorem dX1_drawSlots_42 : decode cX1_drawSlots 42 = .ok (.iload_n 3, 1) := by decide +kernel
theorem dX1_drawSlots_43 : decode cX1_drawSlots 43 = .ok (.invokevirtual 421, 3) := by decide +kernel
theorem dX1_drawSlots_46 : decode cX1_drawSlots 46 = .ok (.istore 6, 2) := by decide +kernel
theorem dX1_drawSlots_48 : decode cX1_drawSlots 48 = .ok (.aload_n 0, 1) := by decide +kernel
theorem dX1_drawSlots_49 : decode cX1_drawSlots 49 = .ok (.getfield 92, 3) := by decide +kernel
theorem dX1_drawSlots_52 : decode cX1_drawSlots 52 = .ok (.aload_n 0, 1) := by decide +kernel
theorem dX1_drawSlots_53 : decode cX1_drawSlots 53 = .ok (.getfield 99, 3) := by decide +kernel
theorem dX1_drawSlots_56 : decode cX1_drawSlots 56 = .ok (.iload 5, 2) := by decide +kernel
theorem dX1_drawSlots_58 : decode cX1_drawSlots 58 = .ok (.iload 6, 2) := by decide +kernel
theorem dX1_drawSlots_60 : decode cX1_drawSlots 60 = .ok (.invokevirtual 449, 3) := by decide +kernel
theorem dX1_drawSlots_63 : decode cX1_drawSlots 63 = .ok (.iconst 0, 1) := by decide +kernel
theorem dX1_drawSlots_64 : decode cX1_drawSlots 64 = .ok (.istore 7, 2) := by decide +kernel
theorem dX1_drawSlots_66 : decode cX1_drawSlots 66 = .ok (.iload 7, 2) := by decide +kernel
theorem dX1_drawSlots_68 : decode cX1_drawSlots 68 = .ok (.bipush 14, 2) := by decide +kernel
theorem dX1_drawSlots_70 : decode cX1_drawSlots 70 = .ok (.if_icmp .ge 43, 3) := by decide +kernel
theorem dX1_drawSlots_73 : decode cX1_drawSlots 73 = .ok (.aload_n 0, 1) := by decide +kernel
theorem dX1_drawSlots_74 : decode cX1_drawSlots 74 = .ok (.getfield 99, 3) := by decide +kernel
theorem dX1_drawSlots_77 : decode cX1_drawSlots 77 = .ok (.iload 5, 2) := by decide +kernel
theorem dX1_drawSlots_79 : decode cX1_drawSlots 79 = .ok (.iconst 2, 1) := by decide +kernel
theorem dX1_drawSlots_80 : decode cX1_drawSlots 80 = .ok (.iadd, 1) := by decide +kernel
theorem dX1_drawSlots_81 : decode cX1_drawSlots 81 = .ok (.iload 7, 2) := by decide +kernel
theorem dX1_drawSlots_83 : decode cX1_drawSlots 83 = .ok (.iadd, 1) := by decide +kernel
theorem dX1_drawSlots_84 : decode cX1_drawSlots 84 = .ok (.iload 6, 2) := by decide +kernel
theorem dX1_drawSlots_86 : decode cX1_drawSlots 86 = .ok (.ifCond .le 19, 3) := by decide +kernel
theorem dX1_drawSlots_89 : decode cX1_drawSlots 89 = .ok (.aload_n 1, 1) := by decide +kernel
theorem dX1_drawSlots_90 : decode cX1_drawSlots 90 = .ok (.getfield 457, 3) := by decide +kernel
theorem dX1_drawSlots_93 : decode cX1_drawSlots 93 = .ok (.bipush 14, 2) := by decide +kernel
theorem dX1_drawSlots_95 : decode cX1_drawSlots 95 = .ok (.iload 4, 2) := by decide +kernel
theorem dX1_drawSlots_97 : decode cX1_drawSlots 97 = .ok (.imul, 1) := by decide +kernel
theorem dX1_drawSlots_98 : decode cX1_drawSlots 98 = .ok (.iload 7, 2) := by decide +kernel
theorem dX1_drawSlots_100 : decode cX1_drawSlots 100 = .ok (.iadd, 1) := by decide +kernel
theorem dX1_drawSlots_101 : decode cX1_drawSlots 101 = .ok (.baload, 1) := by decide +kernel
theorem dX1_drawSlots_102 : decode cX1_drawSlots 102 = .ok (.goto 4, 3) := by decide +kernel
theorem dX1_drawSlots_105 : decode cX1_drawSlots 105 = .ok (.iconst 0, 1) := by decide +kernel
theorem dX1_drawSlots_106 : decode cX1_drawSlots 106 = .ok (.bastore, 1) := by decide +kernel
theorem dX1_drawSlots_107 : decode cX1_drawSlots 107 = .ok (.iinc 7 1, 3) := by decide +kernel
theorem dX1_drawSlots_110 : decode cX1_drawSlots 110 = .ok (.goto (-44), 3) := by decide +kernel
theorem dX1_drawSlots_113 : decode cX1_drawSlots 113 = .ok (.iinc 4 1, 3) := by decide +kernel
theorem dX1_drawSlots_116 : decode cX1_drawSlots 116 = .ok (.goto (-110), 3) := by decide +kernel
theorem dX1_drawSlots_119 : decode cX1_drawSlots 119 = .ok (.return_, 1) := by decide +kernel
set_option maxHeartbeats 4000000 in
set_option maxRecDepth 100000 in
theorem i_X1_drawSlots {G : xG} {n a b : Nat} {Q : Outcome → xS → Prop} {J : xJ} {Z : xR} {T : xT} {R : xR} {I0 : xI} {N B : Nat} (hk : KS Z T N B) {i bl : Nat} {w : Int32} (hi : i < N) (hbl : bl < 64) {s t : Nat} {v : Int32} (hs : s < 512) (ht : t + 16 ≤ 128 * B) (hx : X G mX1_drawSlots n a b Q (xfil I0 20 0 (t + 2) (t + 16) (fun j => if v ≤ 0 then 0 else I0 43 i (14 * s + (j - (t + 2)))), J, R, Z, T) 113 [(1, .ref (T.ad 0 0)), (1, .ref (T.ad 6 i)), (1, .int (nI bl)), (1, .int w), (1, .int (nI s)), xo, xo, xo] []) (k : Nat) (I : xI) (hn : 1 ≤ n) :
    (k ≤ 14) → (I = xfil I0 20 0 (t + 2) (t + 2 + k) (fun j => if v ≤ 0 then 0 else I0 43 i (14 * s + (j - (t + 2))))) → X G mX1_drawSlots n a b Q (I, J, R, Z, T) 66 [(1, .ref (T.ad 0 0)), (1, .ref (T.ad 6 i)), (1, .int (nI bl)), (1, .int w), (1, .int (nI s)), (1, .int (nI t)), (1, .int v), (1, .int (nI k))] [] := by
  induction hm : 14 - k using Nat.strongRecOn generalizing k I with
  | _ m_ ih =>
    intro h8 hI
    have hnb := hk.nb
    refine x_iload 68 dX1_drawSlots_66 rfl rfl ?_
    refine x_bipush (v := 14) 70 dX1_drawSlots_68 rfl rfl ?_
    refine x_icmp_ge 113 73 dX1_drawSlots_70 (by decide) rfl (fun c70 => ?_) (fun c70 => ?_)
    · skip
      have c70 : 14 ≤ k := (nI_leI (a := 14) (b := k) (by omega) (by omega)).mp c70
      refine x_fgt [(1, .ref (T.ad 0 0)), (1, .ref (T.ad 6 i)), (1, .int (nI bl)), (1, .int w), (1, .int (nI s)), xo, xo, xo] ⟨Or.inr rfl, Or.inr rfl, Or.inr rfl, Or.inr rfl, Or.inr rfl, Or.inl rfl, Or.inl rfl, Or.inl rfl, trivial⟩ ?_
      have e : k = 14 := by omega
      rw [hI, e]; exact hx
    · skip
      have c70 : ¬ (14 ≤ k) := fun h => c70 ((nI_leI (a := 14) (b := k) (by omega) (by omega)).mpr h)
      refine x_aload_n 74 dX1_drawSlots_73 rfl rfl ?_
      refine x_getz 77 dX1_drawSlots_74 rfl fl_X1_99 (hk.l0 (by omega)) (hk.z0_2 (by omega)) ?_
      refine x_iload 79 dX1_drawSlots_77 rfl rfl ?_
      refine x_iconst (v := 2) 80 dX1_drawSlots_79 rfl rfl ?_
      refine x_iaddn t 2 81 dX1_drawSlots_80 rfl rfl rfl ?_
      refine x_iload 83 dX1_drawSlots_81 rfl rfl ?_
      refine x_iaddn (t + 2) k 84 dX1_drawSlots_83 rfl rfl rfl ?_
      refine x_iload 86 dX1_drawSlots_84 rfl rfl ?_
      refine x_if_le 105 89 dX1_drawSlots_86 (by decide) rfl (fun c86 => ?_) (fun c86 => ?_)
      · skip
        refine x_iconst (v := 0) 106 dX1_drawSlots_105 rfl rfl ?_
        refine x_bast 107 dX1_drawSlots_106 rfl ar_20 (by decide) (by decide) (hk.l20 (by omega)) (xb (hk.n20 (by omega)) (by omega) (by omega)) ?_
        refine x_nmI fun I1 hI1 => ?_
        refine x_iinc 110 [(1, .ref (T.ad 0 0)), (1, .ref (T.ad 6 i)), (1, .int (nI bl)), (1, .int w), (1, .int (nI s)), (1, .int (nI t)), (1, .int v), (1, .int (nI (k + 1)))] dX1_drawSlots_107 rfl (by decide) rfl (xi_1 k) rfl ?_
        refine x_goto 66 dX1_drawSlots_110 (by decide) ?_
        exact ih _ (by rw [← hm]; omega) (k + 1) I1 rfl (by omega) (by rw [hI1, hI, show t + 2 + (k + 1) = t + 2 + k + 1 by omega]; refine xfil_step (by omega) ?_; simp only [show t + 2 + k - (t + 2) = k by omega]; first | (rw [if_neg (by simpa using c86), ← hI, x_b8 hb, hI, xfil_c (by decide)]) | (rw [if_pos (by simpa using c86)]; rfl))
      · skip
        refine x_wf fun hwf => ?_
        have hb : fits .byte (.int (I 43 i (14 * s + k))) = true := (hwf.2.2 43 i (14 * s + k) (hk.l43 hi) (by decide) (by rw [hk.n43 hi]; omega)).1 (by decide)
        refine x_aload_n 90 dX1_drawSlots_89 rfl rfl ?_
        refine x_getz 93 dX1_drawSlots_90 rfl fl_X1_457 (hk.l6 (by omega)) (hk.z6_29 (by omega)) ?_
        refine x_bipush (v := 14) 95 dX1_drawSlots_93 rfl rfl ?_
        refine x_iload 97 dX1_drawSlots_95 rfl rfl ?_
        refine x_imuln 14 s 98 dX1_drawSlots_97 rfl rfl rfl ?_
        refine x_iload 100 dX1_drawSlots_98 rfl rfl ?_
        refine x_iaddn (14 * s) k 101 dX1_drawSlots_100 rfl rfl rfl ?_
        refine x_bald 102 dX1_drawSlots_101 rfl ar_43 (hk.l43 (by omega)) (xb (hk.n43 (by omega)) (by omega) (by omega)) ?_
        refine x_goto 106 dX1_drawSlots_102 (by decide) ?_
        refine x_bast 107 dX1_drawSlots_106 rfl ar_20 (by decide) (by decide) (hk.l20 (by omega)) (xb (hk.n20 (by omega)) (by omega) (by omega)) ?_
        refine x_nmI fun I1 hI1 => ?_
        refine x_iinc 110 [(1, .ref (T.ad 0 0)), (1, .ref (T.ad 6 i)), (1, .int (nI bl)), (1, .int w), (1, .int (nI s)), (1, .int (nI t)), (1, .int v), (1, .int (nI (k + 1)))] dX1_drawSlots_107 rfl (by decide) rfl (xi_1 k) rfl ?_
        refine x_goto 66 dX1_drawSlots_110 (by decide) ?_
        exact ih _ (by rw [← hm]; omega) (k + 1) I1 rfl (by omega) (by rw [hI1, hI, show t + 2 + (k + 1) = t + 2 + k + 1 by omega]; refine xfil_step (by omega) ?_; simp only [show t + 2 + k - (t + 2) = k by omega]; first | (rw [if_neg (by simpa using c86), ← hI, x_b8 hb, hI, xfil_c (by decide)]) | (rw [if_pos (by simpa using c86)]; rfl))
set_option maxHeartbeats 4000000 in
set_option maxRecDepth 100000 in
theorem l_X1_drawSlots {G : xG} {n a b : Nat} {Q : Outcome → xS → Prop} {J : xJ} {Z : xR} {T : xT} {R : xR} {I0 : xI} {N B : Nat} (hk : KS Z T N B) {i bl : Nat} {w : Int32} (hi : i < N) (hbl : bl < 64) (hw : kBw I0 B) (hq : Q (.returned none) (kDs i bl w I0, J, R, Z, T)) (k : Nat) (I : xI) (hn : 2 ≤ n) :
    (k ≤ 8) → (I = itA (fun I k => kDs1 i bl w I (8 * bl + k)) I0 k) → X G mX1_drawSlots n a b Q (I, J, R, Z, T) 6 [(1, .ref (T.ad 0 0)), (1, .ref (T.ad 6 i)), (1, .int (nI bl)), (1, .int w), (1, .int (nI (8 * bl + k))), xo, xo, xo] [] := by
  induction hm : 8 - k using Nat.strongRecOn generalizing k I with
  | _ m_ ih =>
    intro h8 hI
    have hnb := hk.nb
    have hnl : kLn (I 39 i bl) (B - 1) := by rw [hI, kDsn_c (by decide)]; exact hw.nbl i bl
    have hnl2 := hnl.2
    have hta : kDsA I i bl (8 * bl + k) + 16 ≤ 128 * B := by unfold kDsA; omega
    refine x_iload 8 dX1_drawSlots_6 rfl rfl ?_
    refine x_bipush (v := 8) 10 dX1_drawSlots_8 rfl rfl ?_
    refine x_iload_n 11 dX1_drawSlots_10 rfl rfl ?_
    refine x_imuln 8 bl 12 dX1_drawSlots_11 rfl rfl rfl ?_
    refine x_bipush (v := 8) 14 dX1_drawSlots_12 rfl rfl ?_
    refine x_iaddn (8 * bl) 8 15 dX1_drawSlots_14 rfl rfl rfl ?_
    refine x_icmp_ge 119 18 dX1_drawSlots_15 (by decide) rfl (fun c15 => ?_) (fun c15 => ?_)
    · skip
      have c15 : (8 * bl) + 8 ≤ 8 * bl + k := (nI_leI (a := (8 * bl) + 8) (b := 8 * bl + k) (by omega) (by omega)).mp c15
      refine x_vreturn dX1_drawSlots_119 rfl ?_
      have e : k = 8 := by omega
      rw [hI, e]; exact hq
    · skip
      have c15 : ¬ ((8 * bl) + 8 ≤ 8 * bl + k) := fun h => c15 ((nI_leI (a := (8 * bl) + 8) (b := 8 * bl + k) (by omega) (by omega)).mpr h)
      refine x_sipush (v := 128) 21 dX1_drawSlots_18 rfl rfl ?_
      refine x_aload_n 22 dX1_drawSlots_21 rfl rfl ?_
      refine x_getz 25 dX1_drawSlots_22 rfl fl_X1_436 (hk.l6 (by omega)) (hk.z6_23 (by omega)) ?_
      refine x_iload_n 26 dX1_drawSlots_25 rfl rfl ?_
      refine x_iald 27 dX1_drawSlots_26 rfl ar_39 (hk.l39 (by omega)) (xb (hk.n39 (by omega)) (by omega) (by omega)) ?_
      refine x_vi (w := nI (iN (I 39 i bl))) hnl.1 ?_
      refine x_imuln 128 (iN (I 39 i bl)) 28 dX1_drawSlots_27 rfl rfl rfl ?_
      refine x_bipush (v := 16) 30 dX1_drawSlots_28 rfl rfl ?_
      refine x_iload 32 dX1_drawSlots_30 rfl rfl ?_
      refine x_bipush (v := 8) 34 dX1_drawSlots_32 rfl rfl ?_
      refine x_iremn (8 * bl + k) 8 35 dX1_drawSlots_34 rfl rfl rfl (by omega) ?_
      refine x_imuln 16 ((8 * bl + k) % 8) 36 dX1_drawSlots_35 rfl rfl rfl ?_
      refine x_iaddn (128 * (iN (I 39 i bl))) (16 * ((8 * bl + k) % 8)) 37 dX1_drawSlots_36 rfl rfl rfl ?_
      refine x_istore 39 [(1, .ref (T.ad 0 0)), (1, .ref (T.ad 6 i)), (1, .int (nI bl)), (1, .int w), (1, .int (nI (8 * bl + k))), (1, .int (nI ((128 * (iN (I 39 i bl))) + (16 * ((8 * bl + k) % 8))))), xo, xo] dX1_drawSlots_37 rfl (by decide) rfl ?_
      refine x_aload_n 40 dX1_drawSlots_39 rfl rfl ?_
      refine x_iload 42 dX1_drawSlots_40 rfl rfl ?_
      refine x_iload_n 43 dX1_drawSlots_42 rfl rfl ?_
      refine x_callV (as := [.int (nI (8 * bl + k)), .int w]) (rest := []) (i := i) (n' := n - 1) 46 dX1_drawSlots_43 rfl mv_X1_421 rfl rfl (hk.l6 (by omega)) (xnh rfl) (by omega) (xst (Nat.le_of_ble_eq_true rfl)) (c_X7_keptBy hk (by omega) (by omega) (by omega) ?_)
      change X _ _ _ _ _ _ _ _ _ _
      refine x_nmi fun x1 hx1 => ?_
      refine x_istore 48 [(1, .ref (T.ad 0 0)), (1, .ref (T.ad 6 i)), (1, .int (nI bl)), (1, .int w), (1, .int (nI (8 * bl + k))), (1, .int (nI ((128 * (iN (I 39 i bl))) + (16 * ((8 * bl + k) % 8))))), (1, .int x1), xo] dX1_drawSlots_46 rfl (by decide) rfl ?_
      refine x_aload_n 49 dX1_drawSlots_48 rfl rfl ?_
      refine x_getz 52 dX1_drawSlots_49 rfl fl_X1_92 (hk.l0 (by omega)) (hk.z0_0 (by omega)) ?_
      refine x_aload_n 53 dX1_drawSlots_52 rfl rfl ?_
      refine x_getz 56 dX1_drawSlots_53 rfl fl_X1_99 (hk.l0 (by omega)) (hk.z0_2 (by omega)) ?_
      refine x_iload 58 dX1_drawSlots_56 rfl rfl ?_
      refine x_iload 60 dX1_drawSlots_58 rfl rfl ?_
      refine x_callV (as := [.ref (T.ad 20 0), .int (nI ((128 * (iN (I 39 i bl))) + (16 * ((8 * bl + k) % 8)))), .int x1]) (rest := []) (i := 0) (n' := n - 1) 63 dX1_drawSlots_60 rfl mv_X1_449 rfl rfl (hk.l5 (by omega)) (xnh rfl) (by omega) (xst (Nat.le_of_ble_eq_true rfl)) (c_X6_put hk ar_20 (hk.l20 (by omega)) (by decide) (by decide) ⟨(by rw [(hk.n20 (by omega))]; omega), by omega⟩ (by omega) ?_)
      change X _ _ _ _ _ _ _ _ _ _
      refine x_iconst (v := 0) 64 dX1_drawSlots_63 rfl rfl ?_
      refine x_istore 66 [(1, .ref (T.ad 0 0)), (1, .ref (T.ad 6 i)), (1, .int (nI bl)), (1, .int w), (1, .int (nI (8 * bl + k))), (1, .int (nI ((128 * (iN (I 39 i bl))) + (16 * ((8 * bl + k) % 8))))), (1, .int x1), (1, .int 0)] dX1_drawSlots_64 rfl (by decide) rfl ?_
      rw [show (128 * (iN (I 39 i bl))) + (16 * ((8 * bl + k) % 8)) = kDsA I i bl (8 * bl + k) from rfl]
      refine i_X1_drawSlots hk hi hbl (s := 8 * bl + k) (t := kDsA I i bl (8 * bl + k)) (v := x1) (by omega) hta ?_ 0 _ (by omega) (by omega) (xfil_0 _ _ _ _ _).symm
      refine x_iinc 116 [(1, .ref (T.ad 0 0)), (1, .ref (T.ad 6 i)), (1, .int (nI bl)), (1, .int w), (1, .int (nI ((8 * bl + k) + 1))), xo, xo, xo] dX1_drawSlots_113 rfl (by decide) rfl (xi_1 (8 * bl + k)) rfl ?_
      refine x_goto 6 dX1_drawSlots_116 (by decide) ?_
      have eN : (xfil (put16 I 20 0 (kDsA I i bl (8 * bl + k)) x1) 20 0 (kDsA I i bl (8 * bl + k) + 2) (kDsA I i bl (8 * bl + k) + 16) (fun j => if x1 ≤ 0 then 0 else put16 I 20 0 (kDsA I i bl (8 * bl + k)) x1 43 i (14 * (8 * bl + k) + (j - (kDsA I i bl (8 * bl + k) + 2))))) = kDs1 i bl w I (8 * bl + k) := by unfold kDs1; rw [hx1]; congr 1
      rw [eN]
      exact ih _ (by rw [← hm]; omega) (k + 1) _ rfl (by omega) (by rw [hI]; rfl)
set_option maxHeartbeats 4000000 in
set_option maxRecDepth 100000 in
theorem c_X1_drawSlots {G : xG} {n : Nat} {Q : Outcome → xS → Prop} {I : xI} {J : xJ} {R Z : xR} {T : xT} {N B : Nat} (hk : KS Z T N B) {i bl : Nat} {w : Int32} (hi : i < N) (hbl : bl < 64) (hw : kBw I B) (hn : 2 ≤ n) (hq : Q (.returned none) (kDs i bl w I, J, R, Z, T)) : xCall G mX1_drawSlots n [.ref (T.ad 0 0), .ref (T.ad 6 i), .int (nI bl), .int w] (I, J, R, Z, T) Q := by
  refine x_met (L0 := [(1, .ref (T.ad 0 0)), (1, .ref (T.ad 6 i)), (1, .int (nI bl)), (1, .int w), xo, xo, xo, xo]) (by decide +kernel) rfl ⟨Nat.le_of_ble_eq_true rfl, rfl⟩ ?_
  refine x_bipush (v := 8) 2 dX1_drawSlots_0 rfl rfl ?_
  refine x_iload_n 3 dX1_drawSlots_2 rfl rfl ?_
  refine x_imuln 8 bl 4 dX1_drawSlots_3 rfl rfl rfl ?_
  refine x_istore 6 [(1, .ref (T.ad 0 0)), (1, .ref (T.ad 6 i)), (1, .int (nI bl)), (1, .int w), (1, .int (nI (8 * bl))), xo, xo, xo] dX1_drawSlots_4 rfl (by decide) rfl ?_
  exact l_X1_drawSlots hk hi hbl hw hq 0 I hn (by omega) rfl
def kAt (i : Nat) : Nat := 128 * (1 + i / 4) + 32 * (i % 4)
def kDr1 (i : Nat) (K : xI) : xI := put16 (xu (xu K 20 0 (kAt i) (by8 (K 6 i 20))) 20 0 (kAt i + 1) (by8 (K 6 i 21))) 20 0 (kAt i + 2) (K 6 i 22)
def kDrB (i : Nat) (K : xI) (k : Nat) : xI := put16 K 20 0 (kAt i + 4 + 2 * k) (K 39 i k)
def kDrI (i : Nat) (K : xI) (k : Nat) : xI := put16 K 20 0 (128 * iN (K 6 i 25) + 2 * (10 + k - 10)) (K 39 i (10 + k))
/-- the indirect block -/
def kDr2 (i : Nat) (K : xI) : xI := if K 6 i 25 ≤ 0 then K else itA (kDrI i) (xfil K 20 0 (128 * iN (K 6 i 25)) (128 * iN (K 6 i 25) + 128) (fun _ => 0)) (iN (K 6 i 24) - 10)
/-- one block of data or slots -/
noncomputable def kDrD (i : Nat) (w : Int32) (K : xI) (k : Nat) : xI := cif (iDir K i) (kDs i k w K) (cif (K 6 i 10 = w ∨ K 6 i 12 = w) (xur K 20 0 (va_cpy (K 36 i) (K 20 0) (128 * k) (128 * iN (K 39 i k)) 128)) K)
noncomputable def kDr3 (i : Nat) (w : Int32) (K : xI) : xI := itA (kDrD i w) K (iN (K 6 i 24))
noncomputable def kDraw0 (i : Nat) (w : Int32) (K : xI) : xI :=
  kDr3 i w (kDr2 i (put16 (itA (kDrB i) (kDr1 i K) (min (iN (K 6 i 24)) 10)) 20 0 (kAt i + 24) (K 6 i 25)))
/-- an inode is drawn as finished by w -/
noncomputable def kDraw (i : Nat) (w : Int32) (K : xI) : xI := if K 6 i 21 = 0 then xfil K 20 0 (kAt i) (kAt i + 32) (fun _ => 0) else kDraw0 i w (xfil K 20 0 (kAt i) (kAt i + 32) (fun _ => 0))
section DC
variable {i : Nat} {w : Int32} {K : xI} {c p q n k : Nat}
theorem kDr1_c (h : c ≠ 20) : kDr1 i K c p q = K c p q := by unfold kDr1; rw [put16_c h, xu_c h, xu_c h]
theorem kDrB_c (h : c ≠ 20) : itA (kDrB i) K n c p q = K c p q := itA_c (f := kDrB i) (fun A k p q => by unfold kDrB; exact put16_c h) K n p q
theorem kDrI_c (h : c ≠ 20) : itA (kDrI i) K n c p q = K c p q := itA_c (f := kDrI i) (fun A k p q => by unfold kDrI; exact put16_c h) K n p q
theorem kDr2_c (h : c ≠ 20) : kDr2 i K c p q = K c p q := by
  unfold kDr2; split
  · rfl
  · rw [kDrI_c h, xfil_c h]
theorem kDrD_c (h : c ≠ 20) : kDrD i w K k c p q = K c p q := by
  unfold kDrD
  by_cases e : iDir K i
  · rw [cif_t e, kDs_c h]
  · rw [cif_f e]
    by_cases e2 : K 6 i 10 = w ∨ K 6 i 12 = w
    · rw [cif_t e2, xur_c h]
    · rw [cif_f e2]
theorem kDrDn_c (h : c ≠ 20) : itA (kDrD i w) K n c p q = K c p q := itA_c (f := kDrD i w) (fun A k p q => kDrD_c h) K n p q
theorem kDr3_c (h : c ≠ 20) : kDr3 i w K c p q = K c p q := kDrDn_c h
theorem kDraw_c (h : c ≠ 20) : kDraw i w K c p q = K c p q := by
  unfold kDraw kDraw0; split
  · exact xfil_c h
  · rw [kDr3_c h, kDr2_c h, put16_c h, kDrB_c h, kDr1_c h, xfil_c h]
end DC
theorem dX1_draw_0 : decode cX1_draw 0 = .ok (.sipush 128, 3) := by decide +kernel
theorem dX1_draw_3 : decode cX1_draw 3 = .ok (.iconst 1, 1) := by decide +kernel
theorem dX1_draw_4 : decode cX1_draw 4 = .ok (.aload_n 1, 1) := by decide +kernel
theorem dX1_draw_5 : decode cX1_draw 5 = .ok (.getfield 448, 3) := by decide +kernel
theorem dX1_draw_8 : decode cX1_draw 8 = .ok (.iconst 4, 1) := by decide +kernel
theorem dX1_draw_9 : decode cX1_draw 9 = .ok (.idiv, 1) := by decide +kernel
theorem dX1_draw_10 : decode cX1_draw 10 = .ok (.iadd, 1) := by decide +kernel
theorem dX1_draw_11 : decode cX1_draw 11 = .ok (.imul, 1) := by decide +kernel
theorem dX1_draw_12 : decode cX1_draw 12 = .ok (.bipush 32, 2) := by decide +kernel
theorem dX1_draw_14 : decode cX1_draw 14 = .ok (.aload_n 1, 1) := by decide +kernel
theorem dX1_draw_15 : decode cX1_draw 15 = .ok (.getfield 448, 3) := by decide +kernel
theorem dX1_draw_18 : decode cX1_draw 18 = .ok (.iconst 4, 1) := by decide +kernel
theorem dX1_draw_19 : decode cX1_draw 19 = .ok (.irem, 1) := by decide +kernel
theorem dX1_draw_20 : decode cX1_draw 20 = .ok (.imul, 1) := by decide +kernel
theorem dX1_draw_21 : decode cX1_draw 21 = .ok (.iadd, 1) := by decide +kernel
theorem dX1_draw_22 : decode cX1_draw 22 = .ok (.istore_n 3, 1) := by decide +kernel
theorem dX1_draw_23 : decode cX1_draw 23 = .ok (.iconst 0, 1) := by decide +kernel
theorem dX1_draw_24 : decode cX1_draw 24 = .ok (.istore 4, 2) := by decide +kernel
theorem dX1_draw_26 : decode cX1_draw 26 = .ok (.iload 4, 2) := by decide +kernel
theorem dX1_draw_28 : decode cX1_draw 28 = .ok (.bipush 32, 2) := by decide +kernel
theorem dX1_draw_30 : decode cX1_draw 30 = .ok (.if_icmp .ge 19, 3) := by decide +kernel
theorem dX1_draw_33 : decode cX1_draw 33 = .ok (.aload_n 0, 1) := by decide +kernel
theorem dX1_draw_34 : decode cX1_draw 34 = .ok (.getfield 99, 3) := by decide +kernel
theorem dX1_draw_37 : decode cX1_draw 37 = .ok (.iload_n 3, 1) := by decide +kernel
theorem dX1_draw_38 : decode cX1_draw 38 = .ok (.iload 4, 2) := by decide +kernel
theorem dX1_draw_40 : decode cX1_draw 40 = .ok (.iadd, 1) := by decide +kernel
theorem dX1_draw_41 : decode cX1_draw 41 = .ok (.iconst 0, 1) := by decide +kernel
theorem dX1_draw_42 : decode cX1_draw 42 = .ok (.bastore, 1) := by decide +kernel
theorem dX1_draw_43 : decode cX1_draw 43 = .ok (.iinc 4 1, 3) := by decide +kernel
theorem dX1_draw_46 : decode cX1_draw 46 = .ok (.goto (-20), 3) := by decide +kernel
theorem dX1_draw_49 : decode cX1_draw 49 = .ok (.aload_n 1, 1) := by decide +kernel
theorem dX1_draw_50 : decode cX1_draw 50 = .ok (.getfield 412, 3) := by decide +kernel
theorem dX1_draw_53 : decode cX1_draw 53 = .ok (.ifCond .ne 4, 3) := by decide +kernel
theorem dX1_draw_56 : decode cX1_draw 56 = .ok (.return_, 1) := by decide +kernel
theorem dX1_draw_57 : decode cX1_draw 57 = .ok (.aload_n 0, 1) := by decide +kernel
theorem dX1_draw_58 : decode cX1_draw 58 = .ok (.getfield 99, 3) := by decide +kernel
theorem dX1_draw_61 : decode cX1_draw 61 = .ok (.iload_n 3, 1) := by decide +kernel
theorem dX1_draw_62 : decode cX1_draw 62 = .ok (.aload_n 1, 1) := by decide +kernel
theorem dX1_draw_63 : decode cX1_draw 63 = .ok (.getfield 409, 3) := by decide +kernel
theorem dX1_draw_66 : decode cX1_draw 66 = .ok (.i2b, 1) := by decide +kernel
theorem dX1_draw_67 : decode cX1_draw 67 = .ok (.bastore, 1) := by decide +kernel
theorem dX1_draw_68 : decode cX1_draw 68 = .ok (.aload_n 0, 1) := by decide +kernel
theorem dX1_draw_69 : decode cX1_draw 69 = .ok (.getfield 99, 3) := by decide +kernel
theorem dX1_draw_72 : decode cX1_draw 72 = .ok (.iload_n 3, 1) := by decide +kernel
theorem dX1_draw_73 : decode cX1_draw 73 = .ok (.iconst 1, 1) := by decide +kernel
theorem dX1_draw_74 : decode cX1_draw 74 = .ok (.iadd, 1) := by decide +kernel
theorem dX1_draw_75 : decode cX1_draw 75 = .ok (.aload_n 1, 1) := by decide +kernel
theorem dX1_draw_76 : decode cX1_draw 76 = .ok (.getfield 412, 3) := by decide +kernel
theorem dX1_draw_79 : decode cX1_draw 79 = .ok (.i2b, 1) := by decide +kernel
theorem dX1_draw_80 : decode cX1_draw 80 = .ok (.bastore, 1) := by decide +kernel
theorem dX1_draw_81 : decode cX1_draw 81 = .ok (.aload_n 0, 1) := by decide +kernel
theorem dX1_draw_82 : decode cX1_draw 82 = .ok (.getfield 92, 3) := by decide +kernel
theorem dX1_draw_85 : decode cX1_draw 85 = .ok (.aload_n 0, 1) := by decide +kernel
theorem dX1_draw_86 : decode cX1_draw 86 = .ok (.getfield 99, 3) := by decide +kernel
theorem dX1_draw_89 : decode cX1_draw 89 = .ok (.iload_n 3, 1) := by decide +kernel
theorem dX1_draw_90 : decode cX1_draw 90 = .ok (.iconst 2, 1) := by decide +kernel
theorem dX1_draw_91 : decode cX1_draw 91 = .ok (.iadd, 1) := by decide +kernel
theorem dX1_draw_92 : decode cX1_draw 92 = .ok (.aload_n 1, 1) := by decide +kernel
theorem dX1_draw_93 : decode cX1_draw 93 = .ok (.getfield 418, 3) := by decide +kernel
theorem dX1_draw_96 : decode cX1_draw 96 = .ok (.invokevirtual 449, 3) := by decide +kernel
theorem dX1_draw_99 : decode cX1_draw 99 = .ok (.iconst 0, 1) := by decide +kernel
theorem dX1_draw_100 : decode cX1_draw 100 = .ok (.istore 4, 2) := by decide +kernel
theorem dX1_draw_102 : decode cX1_draw 102 = .ok (.iload 4, 2) := by decide +kernel
theorem dX1_draw_104 : decode cX1_draw 104 = .ok (.aload_n 1, 1) := by decide +kernel
theorem dX1_draw_105 : decode cX1_draw 105 = .ok (.getfield 430, 3) := by decide +kernel
theorem dX1_draw_108 : decode cX1_draw 108 = .ok (.if_icmp .ge 42, 3) := by decide +kernel
theorem dX1_draw_111 : decode cX1_draw 111 = .ok (.iload 4, 2) := by decide +kernel
theorem dX1_draw_113 : decode cX1_draw 113 = .ok (.bipush 10, 2) := by decide +kernel
theorem dX1_draw_115 : decode cX1_draw 115 = .ok (.if_icmp .ge 35, 3) := by decide +kernel
theorem dX1_draw_118 : decode cX1_draw 118 = .ok (.aload_n 0, 1) := by decide +kernel
theorem dX1_draw_119 : decode cX1_draw 119 = .ok (.getfield 92, 3) := by decide +kernel
theorem dX1_draw_122 : decode cX1_draw 122 = .ok (.aload_n 0, 1) := by decide +kernel
theorem dX1_draw_123 : decode cX1_draw 123 = .ok (.getfield 99, 3) := by decide +kernel
theorem dX1_draw_126 : decode cX1_draw 126 = .ok (.iload_n 3, 1) := by decide +kernel
theorem dX1_draw_127 : decode cX1_draw 127 = .ok (.iconst 4, 1) := by decide +kernel
theorem dX1_draw_128 : decode cX1_draw 128 = .ok (.iadd, 1) := by decide +kernel
theorem dX1_draw_129 : decode cX1_draw 129 = .ok (.iconst 2, 1) := by decide +kernel
theorem dX1_draw_130 : decode cX1_draw 130 = .ok (.iload 4, 2) := by decide +kernel
theorem dX1_draw_132 : decode cX1_draw 132 = .ok (.imul, 1) := by decide +kernel
theorem dX1_draw_133 : decode cX1_draw 133 = .ok (.iadd, 1) := by decide +kernel
theorem dX1_draw_134 : decode cX1_draw 134 = .ok (.aload_n 1, 1) := by decide +kernel
theorem dX1_draw_135 : decode cX1_draw 135 = .ok (.getfield 436, 3) := by decide +kernel
theorem dX1_draw_138 : decode cX1_draw 138 = .ok (.iload 4, 2) := by decide +kernel
theorem dX1_draw_140 : decode cX1_draw 140 = .ok (.iaload, 1) := by decide +kernel
theorem dX1_draw_141 : decode cX1_draw 141 = .ok (.invokevirtual 449, 3) := by decide +kernel
theorem dX1_draw_144 : decode cX1_draw 144 = .ok (.iinc 4 1, 3) := by decide +kernel
theorem dX1_draw_147 : decode cX1_draw 147 = .ok (.goto (-45), 3) := by decide +kernel
theorem dX1_draw_150 : decode cX1_draw 150 = .ok (.aload_n 0, 1) := by decide +kernel
theorem dX1_draw_151 : decode cX1_draw 151 = .ok (.getfield 92, 3) := by decide +kernel
theorem dX1_draw_154 : decode cX1_draw 154 = .ok (.aload_n 0, 1) := by decide +kernel
theorem dX1_draw_155 : decode cX1_draw 155 = .ok (.getfield 99, 3) := by decide +kernel
theorem dX1_draw_158 : decode cX1_draw 158 = .ok (.iload_n 3, 1) := by decide +kernel
theorem dX1_draw_159 : decode cX1_draw 159 = .ok (.bipush 24, 2) := by decide +kernel
theorem dX1_draw_161 : decode cX1_draw 161 = .ok (.iadd, 1) := by decide +kernel
theorem dX1_draw_162 : decode cX1_draw 162 = .ok (.aload_n 1, 1) := by decide +kernel
theorem dX1_draw_163 : decode cX1_draw 163 = .ok (.getfield 433, 3) := by decide +kernel
theorem dX1_draw_166 : decode cX1_draw 166 = .ok (.invokevirtual 449, 3) := by decide +kernel
theorem dX1_draw_169 : decode cX1_draw 169 = .ok (.aload_n 1, 1) := by decide +kernel
theorem dX1_draw_170 : decode cX1_draw 170 = .ok (.getfield 433, 3) := by decide +kernel
theorem dX1_draw_173 : decode cX1_draw 173 = .ok (.ifCond .le 90, 3) := by decide +kernel
theorem dX1_draw_176 : decode cX1_draw 176 = .ok (.iconst 0, 1) := by decide +kernel
theorem dX1_draw_177 : decode cX1_draw 177 = .ok (.istore 4, 2) := by decide +kernel
theorem dX1_draw_179 : decode cX1_draw 179 = .ok (.iload 4, 2) := by decide +kernel
theorem dX1_draw_181 : decode cX1_draw 181 = .ok (.sipush 128, 3) := by decide +kernel
theorem dX1_draw_184 : decode cX1_draw 184 = .ok (.if_icmp .ge 26, 3) := by decide +kernel
theorem dX1_draw_187 : decode cX1_draw 187 = .ok (.aload_n 0, 1) := by decide +kernel
theorem dX1_draw_188 : decode cX1_draw 188 = .ok (.getfield 99, 3) := by decide +kernel
theorem dX1_draw_191 : decode cX1_draw 191 = .ok (.sipush 128, 3) := by decide +kernel
theorem dX1_draw_194 : decode cX1_draw 194 = .ok (.aload_n 1, 1) := by decide +kernel
theorem dX1_draw_195 : decode cX1_draw 195 = .ok (.getfield 433, 3) := by decide +kernel
theorem dX1_draw_198 : decode cX1_draw 198 = .ok (.imul, 1) := by decide +kernel
theorem dX1_draw_199 : decode cX1_draw 199 = .ok (.iload 4, 2) := by decide +kernel
theorem dX1_draw_201 : decode cX1_draw 201 = .ok (.iadd, 1) := by decide +kernel
theorem dX1_draw_202 : decode cX1_draw 202 = .ok (.iconst 0, 1) := by decide +kernel
theorem dX1_draw_203 : decode cX1_draw 203 = .ok (.bastore, 1) := by decide +kernel
theorem dX1_draw_204 : decode cX1_draw 204 = .ok (.iinc 4 1, 3) := by decide +kernel
theorem dX1_draw_207 : decode cX1_draw 207 = .ok (.goto (-28), 3) := by decide +kernel
theorem dX1_draw_210 : decode cX1_draw 210 = .ok (.bipush 10, 2) := by decide +kernel
theorem dX1_draw_212 : decode cX1_draw 212 = .ok (.istore 4, 2) := by decide +kernel
theorem dX1_draw_214 : decode cX1_draw 214 = .ok (.iload 4, 2) := by decide +kernel
theorem dX1_draw_216 : decode cX1_draw 216 = .ok (.aload_n 1, 1) := by decide +kernel
theorem dX1_draw_217 : decode cX1_draw 217 = .ok (.getfield 430, 3) := by decide +kernel
theorem dX1_draw_220 : decode cX1_draw 220 = .ok (.if_icmp .ge 43, 3) := by decide +kernel
theorem dX1_draw_223 : decode cX1_draw 223 = .ok (.aload_n 0, 1) := by decide +kernel
theorem dX1_draw_224 : decode cX1_draw 224 = .ok (.getfield 92, 3) := by decide +kernel
theorem dX1_draw_227 : decode cX1_draw 227 = .ok (.aload_n 0, 1) := by decide +kernel
theorem dX1_draw_228 : decode cX1_draw 228 = .ok (.getfield 99, 3) := by decide +kernel
theorem dX1_draw_231 : decode cX1_draw 231 = .ok (.sipush 128, 3) := by decide +kernel
theorem dX1_draw_234 : decode cX1_draw 234 = .ok (.aload_n 1, 1) := by decide +kernel
theorem dX1_draw_235 : decode cX1_draw 235 = .ok (.getfield 433, 3) := by decide +kernel
theorem dX1_draw_238 : decode cX1_draw 238 = .ok (.imul, 1) := by decide +kernel
theorem dX1_draw_239 : decode cX1_draw 239 = .ok (.iconst 2, 1) := by decide +kernel
theorem dX1_draw_240 : decode cX1_draw 240 = .ok (.iload 4, 2) := by decide +kernel
theorem dX1_draw_242 : decode cX1_draw 242 = .ok (.bipush 10, 2) := by decide +kernel
theorem dX1_draw_244 : decode cX1_draw 244 = .ok (.isub, 1) := by decide +kernel
theorem dX1_draw_245 : decode cX1_draw 245 = .ok (.imul, 1) := by decide +kernel
theorem dX1_draw_246 : decode cX1_draw 246 = .ok (.iadd, 1) := by decide +kernel
theorem dX1_draw_247 : decode cX1_draw 247 = .ok (.aload_n 1, 1) := by decide +kernel
theorem dX1_draw_248 : decode cX1_draw 248 = .ok (.getfield 436, 3) := by decide +kernel
theorem dX1_draw_251 : decode cX1_draw 251 = .ok (.iload 4, 2) := by decide +kernel
theorem dX1_draw_253 : decode cX1_draw 253 = .ok (.iaload, 1) := by decide +kernel
theorem dX1_draw_254 : decode cX1_draw 254 = .ok (.invokevirtual 449, 3) := by decide +kernel
theorem dX1_draw_257 : decode cX1_draw 257 = .ok (.iinc 4 1, 3) := by decide +kernel
theorem dX1_draw_260 : decode cX1_draw 260 = .ok (.goto (-46), 3) := by decide +kernel
theorem dX1_draw_263 : decode cX1_draw 263 = .ok (.iconst 0, 1) := by decide +kernel
theorem dX1_draw_264 : decode cX1_draw 264 = .ok (.istore 4, 2) := by decide +kernel
theorem dX1_draw_266 : decode cX1_draw 266 = .ok (.iload 4, 2) := by decide +kernel
theorem dX1_draw_268 : decode cX1_draw 268 = .ok (.aload_n 1, 1) := by decide +kernel
theorem dX1_draw_269 : decode cX1_draw 269 = .ok (.getfield 430, 3) := by decide +kernel
theorem dX1_draw_272 : decode cX1_draw 272 = .ok (.if_icmp .ge 74, 3) := by decide +kernel
theorem dX1_draw_275 : decode cX1_draw 275 = .ok (.aload_n 1, 1) := by decide +kernel
theorem dX1_draw_276 : decode cX1_draw 276 = .ok (.invokevirtual 403, 3) := by decide +kernel
theorem dX1_draw_279 : decode cX1_draw 279 = .ok (.ifCond .eq 14, 3) := by decide +kernel
theorem dX1_draw_282 : decode cX1_draw 282 = .ok (.aload_n 0, 1) := by decide +kernel
theorem dX1_draw_283 : decode cX1_draw 283 = .ok (.aload_n 1, 1) := by decide +kernel
theorem dX1_draw_284 : decode cX1_draw 284 = .ok (.iload 4, 2) := by decide +kernel
theorem dX1_draw_286 : decode cX1_draw 286 = .ok (.iload_n 2, 1) := by decide +kernel
theorem dX1_draw_287 : decode cX1_draw 287 = .ok (.invokevirtual 453, 3) := by decide +kernel
theorem dX1_draw_290 : decode cX1_draw 290 = .ok (.goto 50, 3) := by decide +kernel
theorem dX1_draw_293 : decode cX1_draw 293 = .ok (.aload_n 1, 1) := by decide +kernel
theorem dX1_draw_294 : decode cX1_draw 294 = .ok (.getfield 258, 3) := by decide +kernel
theorem dX1_draw_297 : decode cX1_draw 297 = .ok (.iload_n 2, 1) := by decide +kernel
theorem dX1_draw_298 : decode cX1_draw 298 = .ok (.if_icmp .eq 11, 3) := by decide +kernel
theorem dX1_draw_301 : decode cX1_draw 301 = .ok (.aload_n 1, 1) := by decide +kernel
theorem dX1_draw_302 : decode cX1_draw 302 = .ok (.getfield 294, 3) := by decide +kernel
theorem dX1_draw_305 : decode cX1_draw 305 = .ok (.iload_n 2, 1) := by decide +kernel
theorem dX1_draw_306 : decode cX1_draw 306 = .ok (.if_icmp .ne 34, 3) := by decide +kernel
theorem dX1_draw_309 : decode cX1_draw 309 = .ok (.aload_n 1, 1) := by decide +kernel
theorem dX1_draw_310 : decode cX1_draw 310 = .ok (.getfield 279, 3) := by decide +kernel
theorem dX1_draw_313 : decode cX1_draw 313 = .ok (.sipush 128, 3) := by decide +kernel
theorem dX1_draw_316 : decode cX1_draw 316 = .ok (.iload 4, 2) := by decide +kernel
theorem dX1_draw_318 : decode cX1_draw 318 = .ok (.imul, 1) := by decide +kernel
theorem dX1_draw_319 : decode cX1_draw 319 = .ok (.aload_n 0, 1) := by decide +kernel
theorem dX1_draw_320 : decode cX1_draw 320 = .ok (.getfield 99, 3) := by decide +kernel
theorem dX1_draw_323 : decode cX1_draw 323 = .ok (.sipush 128, 3) := by decide +kernel
theorem dX1_draw_326 : decode cX1_draw 326 = .ok (.aload_n 1, 1) := by decide +kernel
theorem dX1_draw_327 : decode cX1_draw 327 = .ok (.getfield 436, 3) := by decide +kernel
theorem dX1_draw_330 : decode cX1_draw 330 = .ok (.iload 4, 2) := by decide +kernel
theorem dX1_draw_332 : decode cX1_draw 332 = .ok (.iaload, 1) := by decide +kernel
theorem dX1_draw_333 : decode cX1_draw 333 = .ok (.imul, 1) := by decide +kernel
theorem dX1_draw_334 : decode cX1_draw 334 = .ok (.sipush 128, 3) := by decide +kernel
theorem dX1_draw_337 : decode cX1_draw 337 = .ok (.invokestatic 148, 3) := by decide +kernel
theorem dX1_draw_340 : decode cX1_draw 340 = .ok (.iinc 4 1, 3) := by decide +kernel
theorem dX1_draw_343 : decode cX1_draw 343 = .ok (.goto (-77), 3) := by decide +kernel
theorem dX1_draw_346 : decode cX1_draw 346 = .ok (.return_, 1) := by decide +kernel
set_option maxHeartbeats 4000000 in
set_option maxRecDepth 100000 in
theorem l26_draw {G : xG} {n a b : Nat} {Q : Outcome → xS → Prop} {J : xJ} {Z : xR} {T : xT} {R : xR} {I0 : xI} {N B : Nat} (hk : KS Z T N B) {i : Nat} {w : Int32} (hi : i < N) (hN4 : N ≤ 48) (hx : X G mX1_draw n a b Q (xfil I0 20 0 (kAt i) (kAt i + 32) (fun _ => 0), J, R, Z, T) 49 [(1, .ref (T.ad 0 0)), (1, .ref (T.ad 6 i)), (1, .int w), (1, .int (nI (kAt i))), xo] []) (k : Nat) (I : xI) (hn : 1 ≤ n) :
    (k ≤ 32) → (I = xfil I0 20 0 (kAt i) (kAt i + k) (fun _ => 0)) → X G mX1_draw n a b Q (I, J, R, Z, T) 26 [(1, .ref (T.ad 0 0)), (1, .ref (T.ad 6 i)), (1, .int w), (1, .int (nI (kAt i))), (1, .int (nI k))] [] := by
  induction hm : 32 - k using Nat.strongRecOn generalizing k I with
  | _ m_ ih =>
    intro h8 hI
    have hnb := hk.nb
    have hat : kAt i + 32 ≤ 128 * B := by unfold kAt; omega
    refine x_iload 28 dX1_draw_26 rfl rfl ?_
    refine x_bipush (v := 32) 30 dX1_draw_28 rfl rfl ?_
    refine x_icmp_ge 49 33 dX1_draw_30 (by decide) rfl (fun c30 => ?_) (fun c30 => ?_)
    · skip
      have c30 : 32 ≤ k := (nI_leI (a := 32) (b := k) (by omega) (by omega)).mp c30
      refine x_fgt [(1, .ref (T.ad 0 0)), (1, .ref (T.ad 6 i)), (1, .int w), (1, .int (nI (kAt i))), xo] ⟨Or.inr rfl, Or.inr rfl, Or.inr rfl, Or.inr rfl, Or.inl rfl, trivial⟩ ?_
      have e : k = 32 := by omega
      rw [hI, e]; exact hx
    · skip
      have c30 : ¬ (32 ≤ k) := fun h => c30 ((nI_leI (a := 32) (b := k) (by omega) (by omega)).mpr h)
      refine x_aload_n 34 dX1_draw_33 rfl rfl ?_
      refine x_getz 37 dX1_draw_34 rfl fl_X1_99 (hk.l0 (by omega)) (hk.z0_2 (by omega)) ?_
      refine x_iload_n 38 dX1_draw_37 rfl rfl ?_
      refine x_iload 40 dX1_draw_38 rfl rfl ?_
      refine x_iaddn (kAt i) k 41 dX1_draw_40 rfl rfl rfl ?_
      refine x_iconst (v := 0) 42 dX1_draw_41 rfl rfl ?_
      refine x_bast 43 dX1_draw_42 rfl ar_20 (by decide) (by decide) (hk.l20 (by omega)) (xb (hk.n20 (by omega)) (by omega) (by omega)) ?_
      refine x_nmI fun I1 hI1 => ?_
      refine x_iinc 46 [(1, .ref (T.ad 0 0)), (1, .ref (T.ad 6 i)), (1, .int w), (1, .int (nI (kAt i))), (1, .int (nI (k + 1)))] dX1_draw_43 rfl (by decide) rfl (xi_1 k) rfl ?_
      refine x_goto 26 dX1_draw_46 (by decide) ?_
      exact ih _ (by rw [← hm]; omega) (k + 1) I1 rfl (by omega) (by rw [hI1, hI, show kAt i + (k + 1) = kAt i + k + 1 by omega]; exact xfil_step (by omega) rfl)
set_option maxHeartbeats 4000000 in
set_option maxRecDepth 100000 in
theorem l102_draw {G : xG} {n a b : Nat} {Q : Outcome → xS → Prop} {J : xJ} {Z : xR} {T : xT} {R : xR} {I0 : xI} {N B : Nat} (hk : KS Z T N B) {i : Nat} {w : Int32} (hi : i < N) {m : Nat} (hmm : I0 6 i 24 = nI m ∧ m ≤ 64) (hx : X G mX1_draw n a b Q (itA (kDrB i) I0 (min m 10), J, R, Z, T) 150 [(1, .ref (T.ad 0 0)), (1, .ref (T.ad 6 i)), (1, .int w), (1, .int (nI (kAt i))), xo] []) (k : Nat) (I : xI) (hn : 2 ≤ n) :
    (k ≤ min m 10) → (I = itA (kDrB i) I0 k) → X G mX1_draw n a b Q (I, J, R, Z, T) 102 [(1, .ref (T.ad 0 0)), (1, .ref (T.ad 6 i)), (1, .int w), (1, .int (nI (kAt i))), (1, .int (nI k))] [] := by
  induction hm : min m 10 - k using Nat.strongRecOn generalizing k I with
  | _ m_ ih =>
    intro h8 hI
    have hnb := hk.nb
    have hat : kAt i + 32 ≤ 128 * B := by unfold kAt; omega
    refine x_iload 104 dX1_draw_102 rfl rfl ?_
    refine x_aload_n 105 dX1_draw_104 rfl rfl ?_
    refine x_geti 108 dX1_draw_105 rfl fl_X1_430 (hk.l6 (by omega)) ?_
    refine x_vi (w := nI m) (by rw [hI, kDrB_c (by decide)]; exact hmm.1) ?_
    refine x_icmp_ge 150 111 dX1_draw_108 (by decide) rfl (fun c108 => ?_) (fun c108 => ?_)
    · skip
      have c108 : m ≤ k := (nI_leI (a := m) (b := k) (by omega) (by omega)).mp c108
      refine x_fgt [(1, .ref (T.ad 0 0)), (1, .ref (T.ad 6 i)), (1, .int w), (1, .int (nI (kAt i))), xo] ⟨Or.inr rfl, Or.inr rfl, Or.inr rfl, Or.inr rfl, Or.inl rfl, trivial⟩ ?_
      have e : k = min m 10 := by omega
      rw [hI, e]; exact hx
    · skip
      have c108 : ¬ (m ≤ k) := fun h => c108 ((nI_leI (a := m) (b := k) (by omega) (by omega)).mpr h)
      refine x_iload 113 dX1_draw_111 rfl rfl ?_
      refine x_bipush (v := 10) 115 dX1_draw_113 rfl rfl ?_
      refine x_icmp_ge 150 118 dX1_draw_115 (by decide) rfl (fun c115 => ?_) (fun c115 => ?_)
      · skip
        have c115 : 10 ≤ k := (nI_leI (a := 10) (b := k) (by omega) (by omega)).mp c115
        refine x_fgt [(1, .ref (T.ad 0 0)), (1, .ref (T.ad 6 i)), (1, .int w), (1, .int (nI (kAt i))), xo] ⟨Or.inr rfl, Or.inr rfl, Or.inr rfl, Or.inr rfl, Or.inl rfl, trivial⟩ ?_
        have e : k = min m 10 := by omega
        rw [hI, e]; exact hx
      · skip
        have c115 : ¬ (10 ≤ k) := fun h => c115 ((nI_leI (a := 10) (b := k) (by omega) (by omega)).mpr h)
        refine x_aload_n 119 dX1_draw_118 rfl rfl ?_
        refine x_getz 122 dX1_draw_119 rfl fl_X1_92 (hk.l0 (by omega)) (hk.z0_0 (by omega)) ?_
        refine x_aload_n 123 dX1_draw_122 rfl rfl ?_
        refine x_getz 126 dX1_draw_123 rfl fl_X1_99 (hk.l0 (by omega)) (hk.z0_2 (by omega)) ?_
        refine x_iload_n 127 dX1_draw_126 rfl rfl ?_
        refine x_iconst (v := 4) 128 dX1_draw_127 rfl rfl ?_
        refine x_iaddn (kAt i) 4 129 dX1_draw_128 rfl rfl rfl ?_
        refine x_iconst (v := 2) 130 dX1_draw_129 rfl rfl ?_
        refine x_iload 132 dX1_draw_130 rfl rfl ?_
        refine x_imuln 2 k 133 dX1_draw_132 rfl rfl rfl ?_
        refine x_iaddn ((kAt i) + 4) (2 * k) 134 dX1_draw_133 rfl rfl rfl ?_
        refine x_aload_n 135 dX1_draw_134 rfl rfl ?_
        refine x_getz 138 dX1_draw_135 rfl fl_X1_436 (hk.l6 (by omega)) (hk.z6_23 (by omega)) ?_
        refine x_iload 140 dX1_draw_138 rfl rfl ?_
        refine x_iald 141 dX1_draw_140 rfl ar_39 (hk.l39 (by omega)) (xb (hk.n39 (by omega)) (by omega) (by omega)) ?_
        refine x_callV (as := [.ref (T.ad 20 0), .int (nI (((kAt i) + 4) + (2 * k))), .int (I 39 i k)]) (rest := []) (i := 0) (n' := n - 1) 144 dX1_draw_141 rfl mv_X1_449 rfl rfl (hk.l5 (by omega)) (xnh rfl) (by omega) (xst (Nat.le_of_ble_eq_true rfl)) (c_X6_put hk ar_20 (hk.l20 (by omega)) (by decide) (by decide) ⟨(by rw [(hk.n20 (by omega))]; omega), by omega⟩ (by omega) ?_)
        change X _ _ _ _ _ _ _ _ _ _
        refine x_iinc 147 [(1, .ref (T.ad 0 0)), (1, .ref (T.ad 6 i)), (1, .int w), (1, .int (nI (kAt i))), (1, .int (nI (k + 1)))] dX1_draw_144 rfl (by decide) rfl (xi_1 k) rfl ?_
        refine x_goto 102 dX1_draw_147 (by decide) ?_
        exact ih _ (by rw [← hm]; omega) (k + 1) ((put16 I 20 0 (((kAt i) + 4) + (2 * k)) (I 39 i k))) rfl (by omega) (by rw [hI]; rfl)
set_option maxHeartbeats 4000000 in
set_option maxRecDepth 100000 in
theorem l179_draw {G : xG} {n a b : Nat} {Q : Outcome → xS → Prop} {J : xJ} {Z : xR} {T : xT} {R : xR} {I0 : xI} {N B : Nat} (hk : KS Z T N B) {i : Nat} {w : Int32} (hi : i < N) {m : Nat} (hmm : I0 6 i 25 = nI m ∧ m ≤ B - 1) (hx : X G mX1_draw n a b Q (xfil I0 20 0 (128 * m) (128 * m + 128) (fun _ => 0), J, R, Z, T) 210 [(1, .ref (T.ad 0 0)), (1, .ref (T.ad 6 i)), (1, .int w), (1, .int (nI (kAt i))), xo] []) (k : Nat) (I : xI) (hn : 1 ≤ n) :
    (k ≤ 128) → (I = xfil I0 20 0 (128 * m) (128 * m + k) (fun _ => 0)) → X G mX1_draw n a b Q (I, J, R, Z, T) 179 [(1, .ref (T.ad 0 0)), (1, .ref (T.ad 6 i)), (1, .int w), (1, .int (nI (kAt i))), (1, .int (nI k))] [] := by
  induction hm : 128 - k using Nat.strongRecOn generalizing k I with
  | _ m_ ih =>
    intro h8 hI
    have hnb := hk.nb
    have hat : kAt i + 32 ≤ 128 * B := by unfold kAt; omega
    refine x_iload 181 dX1_draw_179 rfl rfl ?_
    refine x_sipush (v := 128) 184 dX1_draw_181 rfl rfl ?_
    refine x_icmp_ge 210 187 dX1_draw_184 (by decide) rfl (fun c184 => ?_) (fun c184 => ?_)
    · skip
      have c184 : 128 ≤ k := (nI_leI (a := 128) (b := k) (by omega) (by omega)).mp c184
      refine x_fgt [(1, .ref (T.ad 0 0)), (1, .ref (T.ad 6 i)), (1, .int w), (1, .int (nI (kAt i))), xo] ⟨Or.inr rfl, Or.inr rfl, Or.inr rfl, Or.inr rfl, Or.inl rfl, trivial⟩ ?_
      have e : k = 128 := by omega
      rw [hI, e]; exact hx
    · skip
      have c184 : ¬ (128 ≤ k) := fun h => c184 ((nI_leI (a := 128) (b := k) (by omega) (by omega)).mpr h)
      refine x_aload_n 188 dX1_draw_187 rfl rfl ?_
      refine x_getz 191 dX1_draw_188 rfl fl_X1_99 (hk.l0 (by omega)) (hk.z0_2 (by omega)) ?_
      refine x_sipush (v := 128) 194 dX1_draw_191 rfl rfl ?_
      refine x_aload_n 195 dX1_draw_194 rfl rfl ?_
      refine x_geti 198 dX1_draw_195 rfl fl_X1_433 (hk.l6 (by omega)) ?_
      refine x_vi (w := nI m) (by rw [hI, xfil_c (by decide)]; exact hmm.1) ?_
      refine x_imuln 128 m 199 dX1_draw_198 rfl rfl rfl ?_
      refine x_iload 201 dX1_draw_199 rfl rfl ?_
      refine x_iaddn (128 * m) k 202 dX1_draw_201 rfl rfl rfl ?_
      refine x_iconst (v := 0) 203 dX1_draw_202 rfl rfl ?_
      refine x_bast 204 dX1_draw_203 rfl ar_20 (by decide) (by decide) (hk.l20 (by omega)) (xb (hk.n20 (by omega)) (by omega) (by omega)) ?_
      refine x_nmI fun I1 hI1 => ?_
      refine x_iinc 207 [(1, .ref (T.ad 0 0)), (1, .ref (T.ad 6 i)), (1, .int w), (1, .int (nI (kAt i))), (1, .int (nI (k + 1)))] dX1_draw_204 rfl (by decide) rfl (xi_1 k) rfl ?_
      refine x_goto 179 dX1_draw_207 (by decide) ?_
      exact ih _ (by rw [← hm]; omega) (k + 1) I1 rfl (by omega) (by rw [hI1, hI, show 128 * m + (k + 1) = 128 * m + k + 1 by omega]; exact xfil_step (by omega) rfl)
set_option maxHeartbeats 4000000 in
set_option maxRecDepth 100000 in
theorem l214_draw {G : xG} {n a b : Nat} {Q : Outcome → xS → Prop} {J : xJ} {Z : xR} {T : xT} {R : xR} {I0 : xI} {N B : Nat} (hk : KS Z T N B) {i : Nat} {w : Int32} (hi : i < N) {m : Nat} (hmm : I0 6 i 24 = nI m ∧ m ≤ 64) {d : Nat} (hdd : I0 6 i 25 = nI d ∧ d ≤ B - 1) (hx : X G mX1_draw n a b Q (itA (kDrI i) I0 (m - 10), J, R, Z, T) 263 [(1, .ref (T.ad 0 0)), (1, .ref (T.ad 6 i)), (1, .int w), (1, .int (nI (kAt i))), xo] []) (k : Nat) (I : xI) (hn : 2 ≤ n) :
    (k ≤ m - 10) → (I = itA (kDrI i) I0 k) → X G mX1_draw n a b Q (I, J, R, Z, T) 214 [(1, .ref (T.ad 0 0)), (1, .ref (T.ad 6 i)), (1, .int w), (1, .int (nI (kAt i))), (1, .int (nI (10 + k)))] [] := by
  induction hm : m - (10 + k) using Nat.strongRecOn generalizing k I with
  | _ m_ ih =>
    intro h8 hI
    have hnb := hk.nb
    have hat : kAt i + 32 ≤ 128 * B := by unfold kAt; omega
    refine x_iload 216 dX1_draw_214 rfl rfl ?_
    refine x_aload_n 217 dX1_draw_216 rfl rfl ?_
    refine x_geti 220 dX1_draw_217 rfl fl_X1_430 (hk.l6 (by omega)) ?_
    refine x_vi (w := nI m) (by rw [hI, kDrI_c (by decide)]; exact hmm.1) ?_
    refine x_icmp_ge 263 223 dX1_draw_220 (by decide) rfl (fun c220 => ?_) (fun c220 => ?_)
    · skip
      have c220 : m ≤ 10 + k := (nI_leI (a := m) (b := 10 + k) (by omega) (by omega)).mp c220
      refine x_fgt [(1, .ref (T.ad 0 0)), (1, .ref (T.ad 6 i)), (1, .int w), (1, .int (nI (kAt i))), xo] ⟨Or.inr rfl, Or.inr rfl, Or.inr rfl, Or.inr rfl, Or.inl rfl, trivial⟩ ?_
      have e : k = m - 10 := by omega
      rw [hI, e]; exact hx
    · skip
      have c220 : ¬ (m ≤ 10 + k) := fun h => c220 ((nI_leI (a := m) (b := 10 + k) (by omega) (by omega)).mpr h)
      refine x_aload_n 224 dX1_draw_223 rfl rfl ?_
      refine x_getz 227 dX1_draw_224 rfl fl_X1_92 (hk.l0 (by omega)) (hk.z0_0 (by omega)) ?_
      refine x_aload_n 228 dX1_draw_227 rfl rfl ?_
      refine x_getz 231 dX1_draw_228 rfl fl_X1_99 (hk.l0 (by omega)) (hk.z0_2 (by omega)) ?_
      refine x_sipush (v := 128) 234 dX1_draw_231 rfl rfl ?_
      refine x_aload_n 235 dX1_draw_234 rfl rfl ?_
      refine x_geti 238 dX1_draw_235 rfl fl_X1_433 (hk.l6 (by omega)) ?_
      refine x_vi (w := nI d) (by rw [hI, kDrI_c (by decide)]; exact hdd.1) ?_
      refine x_imuln 128 d 239 dX1_draw_238 rfl rfl rfl ?_
      refine x_iconst (v := 2) 240 dX1_draw_239 rfl rfl ?_
      refine x_iload 242 dX1_draw_240 rfl rfl ?_
      refine x_bipush (v := 10) 244 dX1_draw_242 rfl rfl ?_
      refine x_isubn (10 + k) 10 245 dX1_draw_244 rfl rfl rfl (by omega) ?_
      refine x_imuln 2 ((10 + k) - 10) 246 dX1_draw_245 rfl rfl rfl ?_
      refine x_iaddn (128 * d) (2 * ((10 + k) - 10)) 247 dX1_draw_246 rfl rfl rfl ?_
      refine x_aload_n 248 dX1_draw_247 rfl rfl ?_
      refine x_getz 251 dX1_draw_248 rfl fl_X1_436 (hk.l6 (by omega)) (hk.z6_23 (by omega)) ?_
      refine x_iload 253 dX1_draw_251 rfl rfl ?_
      refine x_iald 254 dX1_draw_253 rfl ar_39 (hk.l39 (by omega)) (xb (hk.n39 (by omega)) (by omega) (by omega)) ?_
      refine x_callV (as := [.ref (T.ad 20 0), .int (nI ((128 * d) + (2 * ((10 + k) - 10)))), .int (I 39 i (10 + k))]) (rest := []) (i := 0) (n' := n - 1) 257 dX1_draw_254 rfl mv_X1_449 rfl rfl (hk.l5 (by omega)) (xnh rfl) (by omega) (xst (Nat.le_of_ble_eq_true rfl)) (c_X6_put hk ar_20 (hk.l20 (by omega)) (by decide) (by decide) ⟨(by rw [(hk.n20 (by omega))]; omega), by omega⟩ (by omega) ?_)
      change X _ _ _ _ _ _ _ _ _ _
      refine x_iinc 260 [(1, .ref (T.ad 0 0)), (1, .ref (T.ad 6 i)), (1, .int w), (1, .int (nI (kAt i))), (1, .int (nI ((10 + k) + 1)))] dX1_draw_257 rfl (by decide) rfl (xi_1 (10 + k)) rfl ?_
      refine x_goto 214 dX1_draw_260 (by decide) ?_
      exact ih _ (by rw [← hm]; omega) (k + 1) ((put16 I 20 0 ((128 * d) + (2 * ((10 + k) - 10))) (I 39 i (10 + k)))) rfl (by omega) (by rw [hI]; show _ = put16 (itA (kDrI i) I0 k) 20 0 (128 * iN (itA (kDrI i) I0 k 6 i 25) + 2 * (10 + k - 10)) _; rw [show itA (kDrI i) I0 k 6 i 25 = nI d from (kDrI_c (by decide)).trans hdd.1, iN_nI (by omega)])
set_option maxHeartbeats 4000000 in
set_option maxRecDepth 100000 in
theorem l266_draw {G : xG} {n a b : Nat} {Q : Outcome → xS → Prop} {J : xJ} {Z : xR} {T : xT} {R : xR} {I0 : xI} {N B : Nat} (hk : KS Z T N B) {i : Nat} {w : Int32} (hi : i < N) {m : Nat} (hmm : I0 6 i 24 = nI m ∧ m ≤ 64) (hw : kBw I0 B) (hq : Q (.returned none) (itA (kDrD i w) I0 m, J, R, Z, T)) (k : Nat) (I : xI) (hn : 3 ≤ n) :
    (k ≤ m) → (I = itA (kDrD i w) I0 k) → X G mX1_draw n a b Q (I, J, R, Z, T) 266 [(1, .ref (T.ad 0 0)), (1, .ref (T.ad 6 i)), (1, .int w), (1, .int (nI (kAt i))), (1, .int (nI k))] [] := by
  induction hm : m - k using Nat.strongRecOn generalizing k I with
  | _ m_ ih =>
    intro h8 hI
    have hnb := hk.nb
    have hat : kAt i + 32 ≤ 128 * B := by unfold kAt; omega
    have hwk : kBw I B := by rw [hI]; exact hw.c20 (fun c p q h => kDrDn_c h)
    have hnl := hwk.nbl i k
    have hnl2 := hnl.2
    refine x_iload 268 dX1_draw_266 rfl rfl ?_
    refine x_aload_n 269 dX1_draw_268 rfl rfl ?_
    refine x_geti 272 dX1_draw_269 rfl fl_X1_430 (hk.l6 (by omega)) ?_
    refine x_vi (w := nI m) (by rw [hI, kDrDn_c (by decide)]; exact hmm.1) ?_
    refine x_icmp_ge 346 275 dX1_draw_272 (by decide) rfl (fun c272 => ?_) (fun c272 => ?_)
    · skip
      have c272 : m ≤ k := (nI_leI (a := m) (b := k) (by omega) (by omega)).mp c272
      refine x_vreturn dX1_draw_346 rfl ?_
      have e : k = m := by omega
      rw [hI, e]; exact hq
    · skip
      have c272 : ¬ (m ≤ k) := fun h => c272 ((nI_leI (a := m) (b := k) (by omega) (by omega)).mpr h)
      refine x_aload_n 276 dX1_draw_275 rfl rfl ?_
      refine x_callV (as := []) (rest := []) (i := i) (n' := n - 1) 279 dX1_draw_276 rfl mv_X1_403 rfl rfl (hk.l6 (by omega)) (xnh rfl) (by omega) (xst (Nat.le_of_ble_eq_true rfl)) (c_X7_isDirectory hk (by omega) (by omega) ?_)
      change X _ _ _ _ _ _ _ _ _ _
      refine x_if_eq 293 282 dX1_draw_279 (by decide) rfl (fun c279 => ?_) (fun c279 => ?_)
      · skip
        have c279 : ¬ (iDir I i) := b2i_0.mp c279
        refine x_aload_n 294 dX1_draw_293 rfl rfl ?_
        refine x_geti 297 dX1_draw_294 rfl fl_X1_258 (hk.l6 (by omega)) ?_
        refine x_iload_n 298 dX1_draw_297 rfl rfl ?_
        refine x_icmp_eq 309 301 dX1_draw_298 (by decide) rfl (fun c298 => ?_) (fun c298 => ?_)
        · skip
          refine x_aload_n 310 dX1_draw_309 rfl rfl ?_
          refine x_getz 313 dX1_draw_310 rfl fl_X1_279 (hk.l6 (by omega)) (hk.z6_5 (by omega)) ?_
          refine x_sipush (v := 128) 316 dX1_draw_313 rfl rfl ?_
          refine x_iload 318 dX1_draw_316 rfl rfl ?_
          refine x_imuln 128 k 319 dX1_draw_318 rfl rfl rfl ?_
          refine x_aload_n 320 dX1_draw_319 rfl rfl ?_
          refine x_getz 323 dX1_draw_320 rfl fl_X1_99 (hk.l0 (by omega)) (hk.z0_2 (by omega)) ?_
          refine x_sipush (v := 128) 326 dX1_draw_323 rfl rfl ?_
          refine x_aload_n 327 dX1_draw_326 rfl rfl ?_
          refine x_getz 330 dX1_draw_327 rfl fl_X1_436 (hk.l6 (by omega)) (hk.z6_23 (by omega)) ?_
          refine x_iload 332 dX1_draw_330 rfl rfl ?_
          refine x_iald 333 dX1_draw_332 rfl ar_39 (hk.l39 (by omega)) (xb (hk.n39 (by omega)) (by omega) (by omega)) ?_
          refine x_vi (w := nI (iN (I 39 i k))) hnl.1 ?_
          refine x_imuln 128 (iN (I 39 i k)) 334 dX1_draw_333 rfl rfl rfl ?_
          refine x_sipush (v := 128) 337 dX1_draw_334 rfl rfl ?_
          refine x_copyi (sp := (128 * k)) (dp := (128 * (iN (I 39 i k)))) (m := 128) 340 dX1_draw_337 rfl cp_X1_148 ar_36 ar_20 (Or.inr ⟨rfl, by decide, by decide⟩) ⟨by decide, fun h => by cases h⟩ (hk.l36 (by omega)) (hk.l20 (by omega)) (by decide) (by omega) (xst (Nat.le_of_ble_eq_true rfl)) ⟨by omega, by omega, by omega⟩ (by rw [(hk.n36 (by omega))]; omega) (by rw [(hk.n20 (by omega))]; omega) ?_
          refine x_nmI fun I1 hI1 => ?_
          refine x_iinc 343 [(1, .ref (T.ad 0 0)), (1, .ref (T.ad 6 i)), (1, .int w), (1, .int (nI (kAt i))), (1, .int (nI (k + 1)))] dX1_draw_340 rfl (by decide) rfl (xi_1 k) rfl ?_
          refine x_goto 266 dX1_draw_343 (by decide) ?_
          exact ih _ (by rw [← hm]; omega) (k + 1) I1 rfl (by omega) (by show _ = kDrD i w (itA (kDrD i w) I0 k) k; rw [← hI]; unfold kDrD; exact (by rw [hI1]; exact ((cif_f c279).trans (cif_t (by first | exact Or.inl c298 | exact Or.inr c306))).symm))
        · skip
          refine x_aload_n 302 dX1_draw_301 rfl rfl ?_
          refine x_geti 305 dX1_draw_302 rfl fl_X1_294 (hk.l6 (by omega)) ?_
          refine x_iload_n 306 dX1_draw_305 rfl rfl ?_
          refine x_icmp_ne 340 309 dX1_draw_306 (by decide) rfl (fun c306 => ?_) (fun c306 => ?_)
          · skip
            refine x_iinc 343 [(1, .ref (T.ad 0 0)), (1, .ref (T.ad 6 i)), (1, .int w), (1, .int (nI (kAt i))), (1, .int (nI (k + 1)))] dX1_draw_340 rfl (by decide) rfl (xi_1 k) rfl ?_
            refine x_goto 266 dX1_draw_343 (by decide) ?_
            exact ih _ (by rw [← hm]; omega) (k + 1) I rfl (by omega) (by show _ = kDrD i w (itA (kDrD i w) I0 k) k; rw [← hI]; unfold kDrD; exact (((cif_f c279).trans (cif_f (fun h => h.elim c298 c306))).symm))
          · skip
            refine x_aload_n 310 dX1_draw_309 rfl rfl ?_
            refine x_getz 313 dX1_draw_310 rfl fl_X1_279 (hk.l6 (by omega)) (hk.z6_5 (by omega)) ?_
            refine x_sipush (v := 128) 316 dX1_draw_313 rfl rfl ?_
            refine x_iload 318 dX1_draw_316 rfl rfl ?_
            refine x_imuln 128 k 319 dX1_draw_318 rfl rfl rfl ?_
            refine x_aload_n 320 dX1_draw_319 rfl rfl ?_
            refine x_getz 323 dX1_draw_320 rfl fl_X1_99 (hk.l0 (by omega)) (hk.z0_2 (by omega)) ?_
            refine x_sipush (v := 128) 326 dX1_draw_323 rfl rfl ?_
            refine x_aload_n 327 dX1_draw_326 rfl rfl ?_
            refine x_getz 330 dX1_draw_327 rfl fl_X1_436 (hk.l6 (by omega)) (hk.z6_23 (by omega)) ?_
            refine x_iload 332 dX1_draw_330 rfl rfl ?_
            refine x_iald 333 dX1_draw_332 rfl ar_39 (hk.l39 (by omega)) (xb (hk.n39 (by omega)) (by omega) (by omega)) ?_
            refine x_vi (w := nI (iN (I 39 i k))) hnl.1 ?_
            refine x_imuln 128 (iN (I 39 i k)) 334 dX1_draw_333 rfl rfl rfl ?_
            refine x_sipush (v := 128) 337 dX1_draw_334 rfl rfl ?_
            refine x_copyi (sp := (128 * k)) (dp := (128 * (iN (I 39 i k)))) (m := 128) 340 dX1_draw_337 rfl cp_X1_148 ar_36 ar_20 (Or.inr ⟨rfl, by decide, by decide⟩) ⟨by decide, fun h => by cases h⟩ (hk.l36 (by omega)) (hk.l20 (by omega)) (by decide) (by omega) (xst (Nat.le_of_ble_eq_true rfl)) ⟨by omega, by omega, by omega⟩ (by rw [(hk.n36 (by omega))]; omega) (by rw [(hk.n20 (by omega))]; omega) ?_
            refine x_nmI fun I1 hI1 => ?_
            refine x_iinc 343 [(1, .ref (T.ad 0 0)), (1, .ref (T.ad 6 i)), (1, .int w), (1, .int (nI (kAt i))), (1, .int (nI (k + 1)))] dX1_draw_340 rfl (by decide) rfl (xi_1 k) rfl ?_
            refine x_goto 266 dX1_draw_343 (by decide) ?_
            exact ih _ (by rw [← hm]; omega) (k + 1) I1 rfl (by omega) (by show _ = kDrD i w (itA (kDrD i w) I0 k) k; rw [← hI]; unfold kDrD; exact (by rw [hI1]; exact ((cif_f c279).trans (cif_t (by first | exact Or.inl c298 | exact Or.inr c306))).symm))
      · skip
        have c279 : iDir I i := b2i_n0.mp c279
        refine x_aload_n 283 dX1_draw_282 rfl rfl ?_
        refine x_aload_n 284 dX1_draw_283 rfl rfl ?_
        refine x_iload 286 dX1_draw_284 rfl rfl ?_
        refine x_iload_n 287 dX1_draw_286 rfl rfl ?_
        refine x_callV (as := [.ref (T.ad 6 i), .int (nI k), .int w]) (rest := []) (i := 0) (n' := n - 1) 290 dX1_draw_287 rfl mv_X1_453 rfl rfl (hk.l0 (by omega)) (xnh rfl) (by omega) (xst (Nat.le_of_ble_eq_true rfl)) (c_X1_drawSlots (I := I) hk (by omega) (by omega) hwk (by omega) ?_)
        change X _ _ _ _ _ _ _ _ _ _
        refine x_goto 340 dX1_draw_290 (by decide) ?_
        refine x_iinc 343 [(1, .ref (T.ad 0 0)), (1, .ref (T.ad 6 i)), (1, .int w), (1, .int (nI (kAt i))), (1, .int (nI (k + 1)))] dX1_draw_340 rfl (by decide) rfl (xi_1 k) rfl ?_
        refine x_goto 266 dX1_draw_343 (by decide) ?_
        exact ih _ (by rw [← hm]; omega) (k + 1) ((kDs i k w I)) rfl (by omega) (by show _ = kDrD i w (itA (kDrD i w) I0 k) k; rw [← hI]; unfold kDrD; exact ((cif_t c279).symm))
set_option maxHeartbeats 4000000 in
set_option maxRecDepth 100000 in
theorem c_X1_draw {G : xG} {n : Nat} {Q : Outcome → xS → Prop} {I : xI} {J : xJ} {R Z : xR} {T : xT} {N B : Nat} (hk : KS Z T N B) {i : Nat} {w : Int32} (hi : i < N) (hnum : I 6 i 0 = nI i) (hw : kBw I B) (hn : 3 ≤ n) (hq : Q (.returned none) (kDraw i w I, J, R, Z, T)) : xCall G mX1_draw n [.ref (T.ad 0 0), .ref (T.ad 6 i), .int w] (I, J, R, Z, T) Q := by
  refine x_met (L0 := [(1, .ref (T.ad 0 0)), (1, .ref (T.ad 6 i)), (1, .int w), xo, xo]) (by decide +kernel) rfl ⟨Nat.le_of_ble_eq_true rfl, rfl⟩ ?_
  have hnb := hk.nb
  have hat : kAt i + 32 ≤ 128 * B := by unfold kAt; omega
  refine x_sipush (v := 128) 3 dX1_draw_0 rfl rfl ?_
  refine x_iconst (v := 1) 4 dX1_draw_3 rfl rfl ?_
  refine x_aload_n 5 dX1_draw_4 rfl rfl ?_
  refine x_geti 8 dX1_draw_5 rfl fl_X1_448 (hk.l6 (by omega)) ?_
  refine x_vi (w := nI i) hnum ?_
  refine x_iconst (v := 4) 9 dX1_draw_8 rfl rfl ?_
  refine x_idivn i 4 10 dX1_draw_9 rfl rfl rfl (by omega) ?_
  refine x_iaddn 1 (i / 4) 11 dX1_draw_10 rfl rfl rfl ?_
  refine x_imuln 128 (1 + (i / 4)) 12 dX1_draw_11 rfl rfl rfl ?_
  refine x_bipush (v := 32) 14 dX1_draw_12 rfl rfl ?_
  refine x_aload_n 15 dX1_draw_14 rfl rfl ?_
  refine x_geti 18 dX1_draw_15 rfl fl_X1_448 (hk.l6 (by omega)) ?_
  refine x_vi (w := nI i) hnum ?_
  refine x_iconst (v := 4) 19 dX1_draw_18 rfl rfl ?_
  refine x_iremn i 4 20 dX1_draw_19 rfl rfl rfl (by omega) ?_
  refine x_imuln 32 (i % 4) 21 dX1_draw_20 rfl rfl rfl ?_
  refine x_iaddn (128 * (1 + (i / 4))) (32 * (i % 4)) 22 dX1_draw_21 rfl rfl rfl ?_
  refine x_istore_n 23 [(1, .ref (T.ad 0 0)), (1, .ref (T.ad 6 i)), (1, .int w), (1, .int (nI ((128 * (1 + (i / 4))) + (32 * (i % 4))))), xo] dX1_draw_22 rfl (by decide) rfl ?_
  refine x_iconst (v := 0) 24 dX1_draw_23 rfl rfl ?_
  refine x_istore 26 [(1, .ref (T.ad 0 0)), (1, .ref (T.ad 6 i)), (1, .int w), (1, .int (nI ((128 * (1 + (i / 4))) + (32 * (i % 4))))), (1, .int 0)] dX1_draw_24 rfl (by decide) rfl ?_
  have eat : 128 * (1 + i / 4) + 32 * (i % 4) = kAt i := rfl
  rw [eat]
  refine l26_draw hk hi (by omega) ?_ 0 I (by omega) (by omega) (xfil_0 _ _ _ _ _).symm
  obtain ⟨K, hK⟩ : ∃ K, K = xfil I 20 0 (kAt i) (kAt i + 32) (fun _ => 0) := ⟨_, rfl⟩
  rw [← hK]
  unfold kDraw at hq; rw [← hK] at hq
  have hKc : ∀ c p q, c ≠ 20 → K c p q = I c p q := fun c p q h => by rw [hK]; exact xfil_c h
  have hwK : kBw K B := hw.c20 hKc
  have e21 : K 6 i 21 = I 6 i 21 := hKc 6 i 21 (by decide)
  refine x_aload_n 50 dX1_draw_49 rfl rfl ?_
  refine x_geti 53 dX1_draw_50 rfl fl_X1_412 (hk.l6 (by omega)) ?_
  refine x_if_ne 57 56 dX1_draw_53 (by decide) rfl (fun c53 => ?_) (fun c53 => ?_)
  · skip
    rw [if_neg (fun h => c53 (e21.trans h))] at hq
    refine x_aload_n 58 dX1_draw_57 rfl rfl ?_
    refine x_getz 61 dX1_draw_58 rfl fl_X1_99 (hk.l0 (by omega)) (hk.z0_2 (by omega)) ?_
    refine x_iload_n 62 dX1_draw_61 rfl rfl ?_
    refine x_aload_n 63 dX1_draw_62 rfl rfl ?_
    refine x_geti 66 dX1_draw_63 rfl fl_X1_409 (hk.l6 (by omega)) ?_
    refine x_i2b 67 dX1_draw_66 rfl ?_
    refine x_bast 68 dX1_draw_67 rfl ar_20 (by decide) (by decide) (hk.l20 (by omega)) (xb (hk.n20 (by omega)) (by omega) (by omega)) ?_
    refine x_nmI fun I1 hI1 => ?_
    refine x_aload_n 69 dX1_draw_68 rfl rfl ?_
    refine x_getz 72 dX1_draw_69 rfl fl_X1_99 (hk.l0 (by omega)) (hk.z0_2 (by omega)) ?_
    refine x_iload_n 73 dX1_draw_72 rfl rfl ?_
    refine x_iconst (v := 1) 74 dX1_draw_73 rfl rfl ?_
    refine x_iaddn (kAt i) 1 75 dX1_draw_74 rfl rfl rfl ?_
    refine x_aload_n 76 dX1_draw_75 rfl rfl ?_
    refine x_geti 79 dX1_draw_76 rfl fl_X1_412 (hk.l6 (by omega)) ?_
    refine x_i2b 80 dX1_draw_79 rfl ?_
    refine x_bast 81 dX1_draw_80 rfl ar_20 (by decide) (by decide) (hk.l20 (by omega)) (xb (hk.n20 (by omega)) (by omega) (by omega)) ?_
    refine x_nmI fun I2 hI2 => ?_
    refine x_aload_n 82 dX1_draw_81 rfl rfl ?_
    refine x_getz 85 dX1_draw_82 rfl fl_X1_92 (hk.l0 (by omega)) (hk.z0_0 (by omega)) ?_
    refine x_aload_n 86 dX1_draw_85 rfl rfl ?_
    refine x_getz 89 dX1_draw_86 rfl fl_X1_99 (hk.l0 (by omega)) (hk.z0_2 (by omega)) ?_
    refine x_iload_n 90 dX1_draw_89 rfl rfl ?_
    refine x_iconst (v := 2) 91 dX1_draw_90 rfl rfl ?_
    refine x_iaddn (kAt i) 2 92 dX1_draw_91 rfl rfl rfl ?_
    refine x_aload_n 93 dX1_draw_92 rfl rfl ?_
    refine x_geti 96 dX1_draw_93 rfl fl_X1_418 (hk.l6 (by omega)) ?_
    refine x_callV (as := [.ref (T.ad 20 0), .int (nI ((kAt i) + 2)), .int (I2 6 i 22)]) (rest := []) (i := 0) (n' := n - 1) 99 dX1_draw_96 rfl mv_X1_449 rfl rfl (hk.l5 (by omega)) (xnh rfl) (by omega) (xst (Nat.le_of_ble_eq_true rfl)) (c_X6_put hk ar_20 (hk.l20 (by omega)) (by decide) (by decide) ⟨by rw [hk.n20 (by omega)]; omega, by omega⟩ (by omega) ?_)
    change X _ _ _ _ _ _ _ _ _ _
    refine x_iconst (v := 0) 100 dX1_draw_99 rfl rfl ?_
    refine x_istore 102 [(1, .ref (T.ad 0 0)), (1, .ref (T.ad 6 i)), (1, .int w), (1, .int (nI (kAt i))), (1, .int 0)] dX1_draw_100 rfl (by decide) rfl ?_
    have e1 : (put16 I2 20 0 ((kAt i) + 2) (I2 6 i 22)) = kDr1 i K := by rw [hI2, hI1]; unfold kDr1 by8; simp only [xu_c, ne_eq, Nat.reduceEqDiff, not_false_eq_true, by8_by8]
    rw [e1]
    have hw1 : kBw (kDr1 i K) B := hwK.c20 (fun c p q h => kDr1_c h)
    have hm1 := hw1.nm i
    have e24 : kDr1 i K 6 i 24 = K 6 i 24 := kDr1_c (by decide)
    rw [e24] at hm1
    refine l102_draw (I0 := kDr1 i K) hk hi (m := iN (K 6 i 24)) ⟨by rw [e24]; exact hm1.1, hm1.2⟩ ?_ 0 _ (by omega) (by omega) rfl
    obtain ⟨K2, hK2⟩ : ∃ K2, K2 = itA (kDrB i) (kDr1 i K) (min (iN (K 6 i 24)) 10) := ⟨_, rfl⟩
    rw [← hK2]
    unfold kDraw0 at hq; rw [← hK2] at hq
    have hK2c : ∀ c p q, c ≠ 20 → K2 c p q = K c p q := fun c p q h => by rw [hK2, kDrB_c h, kDr1_c h]
    refine x_aload_n 151 dX1_draw_150 rfl rfl ?_
    refine x_getz 154 dX1_draw_151 rfl fl_X1_92 (hk.l0 (by omega)) (hk.z0_0 (by omega)) ?_
    refine x_aload_n 155 dX1_draw_154 rfl rfl ?_
    refine x_getz 158 dX1_draw_155 rfl fl_X1_99 (hk.l0 (by omega)) (hk.z0_2 (by omega)) ?_
    refine x_iload_n 159 dX1_draw_158 rfl rfl ?_
    refine x_bipush (v := 24) 161 dX1_draw_159 rfl rfl ?_
    refine x_iaddn (kAt i) 24 162 dX1_draw_161 rfl rfl rfl ?_
    refine x_aload_n 163 dX1_draw_162 rfl rfl ?_
    refine x_geti 166 dX1_draw_163 rfl fl_X1_433 (hk.l6 (by omega)) ?_
    refine x_callV (as := [.ref (T.ad 20 0), .int (nI ((kAt i) + 24)), .int (K2 6 i 25)]) (rest := []) (i := 0) (n' := n - 1) 169 dX1_draw_166 rfl mv_X1_449 rfl rfl (hk.l5 (by omega)) (xnh rfl) (by omega) (xst (Nat.le_of_ble_eq_true rfl)) (c_X6_put hk ar_20 (hk.l20 (by omega)) (by decide) (by decide) ⟨by rw [hk.n20 (by omega)]; omega, by omega⟩ (by omega) ?_)
    change X _ _ _ _ _ _ _ _ _ _
    have e25 : K2 6 i 25 = K 6 i 25 := hK2c 6 i 25 (by decide)
    rw [e25]
    obtain ⟨K3, hK3⟩ : ∃ K3, K3 = put16 K2 20 0 (kAt i + 24) (K 6 i 25) := ⟨_, rfl⟩
    rw [← hK3]
    rw [← hK3] at hq
    have hK3c : ∀ c p q, c ≠ 20 → K3 c p q = K c p q := fun c p q h => by rw [hK3, put16_c h, hK2c c p q h]
    have hw3 : kBw K3 B := hwK.c20 hK3c
    have h263 : X G mX1_draw n T.nc T.ns Q (kDr2 i K3, J, R, Z, T) 263 [(1, .ref (T.ad 0 0)), (1, .ref (T.ad 6 i)), (1, .int w), (1, .int (nI (kAt i))), xo] [] := by
      refine x_iconst (v := 0) 264 dX1_draw_263 rfl rfl ?_
      refine x_istore 266 [(1, .ref (T.ad 0 0)), (1, .ref (T.ad 6 i)), (1, .int w), (1, .int (nI (kAt i))), (1, .int 0)] dX1_draw_264 rfl (by decide) rfl ?_
      have hw4 : kBw (kDr2 i K3) B := hw3.c20 (fun c p q h => kDr2_c h)
      exact l266_draw hk hi (m := iN (kDr2 i K3 6 i 24)) (hw4.nm i) hw4 hq 0 _ (by omega) (by omega) rfl
    clear hq
    unfold kDr2 at h263
    refine x_aload_n 170 dX1_draw_169 rfl rfl ?_
    refine x_geti 173 dX1_draw_170 rfl fl_X1_433 (hk.l6 (by omega)) ?_
    refine x_if_le 263 176 dX1_draw_173 (by decide) rfl (fun c173 => ?_) (fun c173 => ?_)
    · skip
      rw [if_pos (by simpa using c173)] at h263
      exact h263
    · skip
      refine x_iconst (v := 0) 177 dX1_draw_176 rfl rfl ?_
      refine x_istore 179 [(1, .ref (T.ad 0 0)), (1, .ref (T.ad 6 i)), (1, .int w), (1, .int (nI (kAt i))), (1, .int 0)] dX1_draw_177 rfl (by decide) rfl ?_
      rw [if_neg (by simpa using c173)] at h263
      have hi25 : kLn (K3 6 i 25) (B - 1) := (hw3.2 i).resolve_left (fun e => by rw [e] at c173; exact absurd c173 (by decide))
      refine l179_draw hk hi (m := iN (K3 6 i 25)) hi25 ?_ 0 _ (by omega) (by omega) (xfil_0 _ _ _ _ _).symm
      refine x_bipush (v := 10) 212 dX1_draw_210 rfl rfl ?_
      refine x_istore 214 [(1, .ref (T.ad 0 0)), (1, .ref (T.ad 6 i)), (1, .int w), (1, .int (nI (kAt i))), (1, .int 10)] dX1_draw_212 rfl (by decide) rfl ?_
      have e5 : (xfil K3 20 0 (128 * iN (K3 6 i 25)) (128 * iN (K3 6 i 25) + 128) (fun _ => 0)) 6 i 25 = K3 6 i 25 := xfil_c (by decide)
      have e6 : (xfil K3 20 0 (128 * iN (K3 6 i 25)) (128 * iN (K3 6 i 25) + 128) (fun _ => 0)) 6 i 24 = K3 6 i 24 := xfil_c (by decide)
      have hm5 := hw3.nm i
      exact l214_draw hk hi (m := iN (K3 6 i 24)) ⟨by rw [e6]; exact hm5.1, hm5.2⟩ (d := iN (K3 6 i 25)) ⟨by rw [e5]; exact hi25.1, hi25.2⟩ h263 0 _ (by omega) (by omega) rfl
  · skip
    refine x_vreturn dX1_draw_56 rfl ?_
    rw [if_pos (e21.symm.trans c53)] at hq; exact hq
