set_option maxRecDepth 100000
def kNewI (I : xI) (o : Nat) : xI := xu (xu (xu (xu (xu (xu I 7 o 1 (-1)) 7 o 2 0) 7 o 3 0) 7 o 4 0) 7 o 5 0) 7 o 6 0
def kNewR (R : xR) (me d o : Nat) : xR := xu (xu R 7 o 0 none) 46 me d (some o)
theorem dX1_newOpening_0 : decode cX1_newOpening 0 = .ok (.aload_n 0, 1) := by decide +kernel
theorem dX1_newOpening_1 : decode cX1_newOpening 1 = .ok (.invokevirtual 604, 3) := by decide +kernel
theorem dX1_newOpening_4 : decode cX1_newOpening 4 = .ok (.astore_n 2, 1) := by decide +kernel
theorem dX1_newOpening_5 : decode cX1_newOpening 5 = .ok (.aload_n 2, 1) := by decide +kernel
theorem dX1_newOpening_6 : decode cX1_newOpening 6 = .ok (.aconst_null, 1) := by decide +kernel
theorem dX1_newOpening_7 : decode cX1_newOpening 7 = .ok (.putfield 255, 3) := by decide +kernel
theorem dX1_newOpening_10 : decode cX1_newOpening 10 = .ok (.aload_n 2, 1) := by decide +kernel
theorem dX1_newOpening_11 : decode cX1_newOpening 11 = .ok (.iconst (-1), 1) := by decide +kernel
theorem dX1_newOpening_12 : decode cX1_newOpening 12 = .ok (.putfield 240, 3) := by decide +kernel
theorem dX1_newOpening_15 : decode cX1_newOpening 15 = .ok (.aload_n 2, 1) := by decide +kernel
theorem dX1_newOpening_16 : decode cX1_newOpening 16 = .ok (.iconst 0, 1) := by decide +kernel
theorem dX1_newOpening_17 : decode cX1_newOpening 17 = .ok (.putfield 249, 3) := by decide +kernel
theorem dX1_newOpening_20 : decode cX1_newOpening 20 = .ok (.aload_n 2, 1) := by decide +kernel
theorem dX1_newOpening_21 : decode cX1_newOpening 21 = .ok (.iconst 0, 1) := by decide +kernel
theorem dX1_newOpening_22 : decode cX1_newOpening 22 = .ok (.putfield 608, 3) := by decide +kernel
theorem dX1_newOpening_25 : decode cX1_newOpening 25 = .ok (.aload_n 2, 1) := by decide +kernel
theorem dX1_newOpening_26 : decode cX1_newOpening 26 = .ok (.iconst 0, 1) := by decide +kernel
theorem dX1_newOpening_27 : decode cX1_newOpening 27 = .ok (.putfield 611, 3) := by decide +kernel
theorem dX1_newOpening_30 : decode cX1_newOpening 30 = .ok (.aload_n 2, 1) := by decide +kernel
theorem dX1_newOpening_31 : decode cX1_newOpening 31 = .ok (.iconst 0, 1) := by decide +kernel
theorem dX1_newOpening_32 : decode cX1_newOpening 32 = .ok (.putfield 613, 3) := by decide +kernel
theorem dX1_newOpening_35 : decode cX1_newOpening 35 = .ok (.aload_n 2, 1) := by decide +kernel
theorem dX1_newOpening_36 : decode cX1_newOpening 36 = .ok (.iconst 0, 1) := by decide +kernel
theorem dX1_newOpening_37 : decode cX1_newOpening 37 = .ok (.putfield 310, 3) := by decide +kernel
theorem dX1_newOpening_40 : decode cX1_newOpening 40 = .ok (.aload_n 0, 1) := by decide +kernel
theorem dX1_newOpening_41 : decode cX1_newOpening 41 = .ok (.getfield 371, 3) := by decide +kernel
theorem dX1_newOpening_44 : decode cX1_newOpening 44 = .ok (.getfield 246, 3) := by decide +kernel
theorem dX1_newOpening_47 : decode cX1_newOpening 47 = .ok (.iload_n 1, 1) := by decide +kernel
theorem dX1_newOpening_48 : decode cX1_newOpening 48 = .ok (.aload_n 2, 1) := by decide +kernel
theorem dX1_newOpening_49 : decode cX1_newOpening 49 = .ok (.aastore, 1) := by decide +kernel
theorem dX1_newOpening_50 : decode cX1_newOpening 50 = .ok (.aload_n 2, 1) := by decide +kernel
theorem dX1_newOpening_51 : decode cX1_newOpening 51 = .ok (.areturn, 1) := by decide +kernel
set_option maxHeartbeats 4000000 in
set_option maxRecDepth 100000 in
theorem c_X1_newOpening {G : xG} {n : Nat} {Q : Outcome → xS → Prop} {I : xI} {J : xJ} {R Z : xR} {T : xT} {N B : Nat} (hk : KS Z T N B) (hr : kRef R N) {me : Nat} (hme : R 0 0 19 = some me) (hme16 : me < 16) (hex : ∃ o, o < 384 ∧ ¬ kThere I R o) {d : Nat} (hd : d < 8) (hn : 4 ≤ n) (hq : Q (.returned (some (.ref (T.ad 7 (kFreeO I R))))) (kNewI I (kFreeO I R), J, kNewR R me d (kFreeO I R), Z, T)) : xCall G mX1_newOpening n [.ref (T.ad 0 0), .int (nI d)] (I, J, R, Z, T) Q := by
  refine x_met (L0 := [(1, .ref (T.ad 0 0)), (1, .int (nI d)), xo]) (by decide +kernel) rfl ⟨Nat.le_of_ble_eq_true rfl, rfl⟩ ?_
  refine x_aload_n 1 dX1_newOpening_0 rfl rfl ?_
  refine x_callV (as := []) (rest := []) (i := 0) (n' := n - 1) 4 dX1_newOpening_1 rfl mv_X1_604 rfl rfl (hk.l0 (by omega)) (xnh rfl) (by omega) (xst (Nat.le_of_ble_eq_true rfl)) (c_X1_freeOpening hk hr hex (by omega) ?_)
  change X _ _ _ _ _ _ _ _ _ _
  obtain ⟨f, hf⟩ : ∃ f, f = kFreeO I R := ⟨_, rfl⟩
  rw [← hf]
  have hf3 := (kFreeO_lt hex).1
  rw [← hf] at hf3 hq
  refine x_astore_n 5 [(1, .ref (T.ad 0 0)), (1, .int (nI d)), (1, .ref (T.ad 7 f))] dX1_newOpening_4 rfl (by decide) rfl ?_
  refine x_aload_n 6 dX1_newOpening_5 rfl rfl ?_
  refine x_null 7 dX1_newOpening_6 rfl ?_
  refine x_asN (T.ad 6) ?_
  refine x_putr 10 dX1_newOpening_7 rfl fl_X1_255 (Or.inl ⟨_, rfl⟩) (hk.l7 (by omega)) (fun _ h => by cases h) ?_
  refine x_nmR fun R1 hR1 => ?_
  refine x_aload_n 11 dX1_newOpening_10 rfl rfl ?_
  refine x_iconst (v := -1) 12 dX1_newOpening_11 rfl rfl ?_
  refine x_puti 15 dX1_newOpening_12 rfl fl_X1_240 rfl rfl (hk.l7 (by omega)) ?_
  refine x_nmI fun I1 hI1 => ?_
  refine x_aload_n 16 dX1_newOpening_15 rfl rfl ?_
  refine x_iconst (v := 0) 17 dX1_newOpening_16 rfl rfl ?_
  refine x_puti 20 dX1_newOpening_17 rfl fl_X1_249 rfl rfl (hk.l7 (by omega)) ?_
  refine x_nmI fun I2 hI2 => ?_
  refine x_aload_n 21 dX1_newOpening_20 rfl rfl ?_
  refine x_iconst (v := 0) 22 dX1_newOpening_21 rfl rfl ?_
  refine x_puti 25 dX1_newOpening_22 rfl fl_X1_608 rfl rfl (hk.l7 (by omega)) ?_
  refine x_nmI fun I3 hI3 => ?_
  refine x_aload_n 26 dX1_newOpening_25 rfl rfl ?_
  refine x_iconst (v := 0) 27 dX1_newOpening_26 rfl rfl ?_
  refine x_puti 30 dX1_newOpening_27 rfl fl_X1_611 rfl rfl (hk.l7 (by omega)) ?_
  refine x_nmI fun I4 hI4 => ?_
  refine x_aload_n 31 dX1_newOpening_30 rfl rfl ?_
  refine x_iconst (v := 0) 32 dX1_newOpening_31 rfl rfl ?_
  refine x_puti 35 dX1_newOpening_32 rfl fl_X1_613 rfl rfl (hk.l7 (by omega)) ?_
  refine x_nmI fun I5 hI5 => ?_
  refine x_aload_n 36 dX1_newOpening_35 rfl rfl ?_
  refine x_iconst (v := 0) 37 dX1_newOpening_36 rfl rfl ?_
  refine x_puti 40 dX1_newOpening_37 rfl fl_X1_310 rfl rfl (hk.l7 (by omega)) ?_
  refine x_nmI fun I6 hI6 => ?_
  refine x_aload_n 41 dX1_newOpening_40 rfl rfl ?_
  refine x_gets 44 dX1_newOpening_41 rfl fl_X1_371 (hk.l0 (by omega)) (by rw [hR1, xu_c (by decide)]; exact hme) ?_
  refine x_getz 47 dX1_newOpening_44 rfl fl_X1_246 (hk.l9 (by omega)) (hk.z9_4 (by omega)) ?_
  refine x_iload_n 48 dX1_newOpening_47 rfl rfl ?_
  refine x_aload_n 49 dX1_newOpening_48 rfl rfl ?_
  refine x_asR ?_
  refine x_astr 50 dX1_newOpening_49 rfl ar_46 (Or.inl ⟨by decide, _, _, _, rfl, rfl⟩) (by decide) (hk.l46 (by omega)) (xb (hk.n46 (by omega)) (by omega) (by omega)) (fun _ h => by cases h; exact (hk.l7 (by omega))) ?_
  refine x_nmR fun R2 hR2 => ?_
  refine x_aload_n 51 dX1_newOpening_50 rfl rfl ?_
  refine x_areturn dX1_newOpening_51 rfl (Or.inl ⟨_, rfl⟩) ?_
  rw [hI6, hI5, hI4, hI3, hI2, hI1, hR2, hR1]; exact hq
def kEndI (I : xI) (p : Nat) (cd : Int32) : xI := xu (xu (xu (xu I 9 p 1 2) 9 p 3 cd) 9 p 6 0) 9 p 10 0
def kEndR (R : xR) (p : Nat) : xR := xur (xu R 9 p 5 none) 46 p (fun _ => none)
def kAdopt (p : Nat) (I : xI) (c : Nat) : xI := if ¬ I 9 c 1 = 0 ∧ I 9 c 2 = I 9 p 0 then xu I 9 c 2 0 else I
theorem dX1_end_0 : decode cX1_end 0 = .ok (.aload_n 1, 1) := by decide +kernel
theorem dX1_end_1 : decode cX1_end 1 = .ok (.iconst 2, 1) := by decide +kernel
theorem dX1_end_2 : decode cX1_end 2 = .ok (.putfield 208, 3) := by decide +kernel
theorem dX1_end_5 : decode cX1_end 5 = .ok (.aload_n 1, 1) := by decide +kernel
theorem dX1_end_6 : decode cX1_end 6 = .ok (.iload_n 2, 1) := by decide +kernel
theorem dX1_end_7 : decode cX1_end 7 = .ok (.putfield 718, 3) := by decide +kernel
theorem dX1_end_10 : decode cX1_end 10 = .ok (.aload_n 1, 1) := by decide +kernel
theorem dX1_end_11 : decode cX1_end 11 = .ok (.aconst_null, 1) := by decide +kernel
theorem dX1_end_12 : decode cX1_end 12 = .ok (.putfield 194, 3) := by decide +kernel
theorem dX1_end_15 : decode cX1_end 15 = .ok (.aload_n 1, 1) := by decide +kernel
theorem dX1_end_16 : decode cX1_end 16 = .ok (.iconst 0, 1) := by decide +kernel
theorem dX1_end_17 : decode cX1_end 17 = .ok (.putfield 319, 3) := by decide +kernel
theorem dX1_end_20 : decode cX1_end 20 = .ok (.aload_n 1, 1) := by decide +kernel
theorem dX1_end_21 : decode cX1_end 21 = .ok (.iconst 0, 1) := by decide +kernel
theorem dX1_end_22 : decode cX1_end 22 = .ok (.putfield 357, 3) := by decide +kernel
theorem dX1_end_25 : decode cX1_end 25 = .ok (.iconst 0, 1) := by decide +kernel
theorem dX1_end_26 : decode cX1_end 26 = .ok (.istore_n 3, 1) := by decide +kernel
theorem dX1_end_27 : decode cX1_end 27 = .ok (.iload_n 3, 1) := by decide +kernel
theorem dX1_end_28 : decode cX1_end 28 = .ok (.bipush 8, 2) := by decide +kernel
theorem dX1_end_30 : decode cX1_end 30 = .ok (.if_icmp .ge 16, 3) := by decide +kernel
theorem dX1_end_33 : decode cX1_end 33 = .ok (.aload_n 1, 1) := by decide +kernel
theorem dX1_end_34 : decode cX1_end 34 = .ok (.getfield 246, 3) := by decide +kernel
theorem dX1_end_37 : decode cX1_end 37 = .ok (.iload_n 3, 1) := by decide +kernel
theorem dX1_end_38 : decode cX1_end 38 = .ok (.aconst_null, 1) := by decide +kernel
theorem dX1_end_39 : decode cX1_end 39 = .ok (.aastore, 1) := by decide +kernel
theorem dX1_end_40 : decode cX1_end 40 = .ok (.iinc 3 1, 3) := by decide +kernel
theorem dX1_end_43 : decode cX1_end 43 = .ok (.goto (-16), 3) := by decide +kernel
theorem dX1_end_46 : decode cX1_end 46 = .ok (.aload_n 0, 1) := by decide +kernel
theorem dX1_end_47 : decode cX1_end 47 = .ok (.getfield 39, 3) := by decide +kernel
theorem dX1_end_50 : decode cX1_end 50 = .ok (.astore_n 3, 1) := by decide +kernel
theorem dX1_end_51 : decode cX1_end 51 = .ok (.aload_n 3, 1) := by decide +kernel
theorem dX1_end_52 : decode cX1_end 52 = .ok (.arraylength, 1) := by decide +kernel
theorem dX1_end_53 : decode cX1_end 53 = .ok (.istore 4, 2) := by decide +kernel
theorem dX1_end_55 : decode cX1_end 55 = .ok (.iconst 0, 1) := by decide +kernel
theorem dX1_end_56 : decode cX1_end 56 = .ok (.istore 5, 2) := by decide +kernel
theorem dX1_end_58 : decode cX1_end 58 = .ok (.iload 5, 2) := by decide +kernel
theorem dX1_end_60 : decode cX1_end 60 = .ok (.iload 4, 2) := by decide +kernel
theorem dX1_end_62 : decode cX1_end 62 = .ok (.if_icmp .ge 41, 3) := by decide +kernel
theorem dX1_end_65 : decode cX1_end 65 = .ok (.aload_n 3, 1) := by decide +kernel
theorem dX1_end_66 : decode cX1_end 66 = .ok (.iload 5, 2) := by decide +kernel
theorem dX1_end_68 : decode cX1_end 68 = .ok (.aaload, 1) := by decide +kernel
theorem dX1_end_69 : decode cX1_end 69 = .ok (.astore 6, 2) := by decide +kernel
theorem dX1_end_71 : decode cX1_end 71 = .ok (.aload 6, 2) := by decide +kernel
theorem dX1_end_73 : decode cX1_end 73 = .ok (.getfield 208, 3) := by decide +kernel
theorem dX1_end_76 : decode cX1_end 76 = .ok (.ifCond .eq 21, 3) := by decide +kernel
theorem dX1_end_79 : decode cX1_end 79 = .ok (.aload 6, 2) := by decide +kernel
theorem dX1_end_81 : decode cX1_end 81 = .ok (.getfield 703, 3) := by decide +kernel
theorem dX1_end_84 : decode cX1_end 84 = .ok (.aload_n 1, 1) := by decide +kernel
theorem dX1_end_85 : decode cX1_end 85 = .ok (.getfield 346, 3) := by decide +kernel
theorem dX1_end_88 : decode cX1_end 88 = .ok (.if_icmp .ne 9, 3) := by decide +kernel
theorem dX1_end_91 : decode cX1_end 91 = .ok (.aload 6, 2) := by decide +kernel
theorem dX1_end_93 : decode cX1_end 93 = .ok (.iconst 0, 1) := by decide +kernel
theorem dX1_end_94 : decode cX1_end 94 = .ok (.putfield 703, 3) := by decide +kernel
theorem dX1_end_97 : decode cX1_end 97 = .ok (.iinc 5 1, 3) := by decide +kernel
theorem dX1_end_100 : decode cX1_end 100 = .ok (.goto (-42), 3) := by decide +kernel
theorem dX1_end_103 : decode cX1_end 103 = .ok (.return_, 1) := by decide +kernel
set_option maxHeartbeats 4000000 in
set_option maxRecDepth 100000 in
theorem l1_X1_end {G : xG} {n a b : Nat} {Q : Outcome → xS → Prop} {I : xI} {J : xJ} {Z : xR} {T : xT} {R0 : xR} {N B : Nat} (hk : KS Z T N B) {p : Nat} (hp : p < 16) {cd : Int32} (hx : X G mX1_end n a b Q (I, J, xur R0 46 p (fun _ => none), Z, T) 46 [(1, .ref (T.ad 0 0)), (1, .ref (T.ad 9 p)), (1, .int cd), (1, .int (nI 8)), xo, xo, xo] []) (hn : 1 ≤ n) (k : Nat) (R : xR) :
    (0 ≤ k ∧ k ≤ 8) → (R = xfil R0 46 p 0 k (fun _ => none)) → X G mX1_end n a b Q (I, J, R, Z, T) 27 [(1, .ref (T.ad 0 0)), (1, .ref (T.ad 9 p)), (1, .int cd), (1, .int (nI k)), xo, xo, xo] [] := by
  induction hm : 8 - k using Nat.strongRecOn generalizing k R with
  | _ m_ ih =>
    intro h8 hI
    refine x_iload_n 28 dX1_end_27 rfl rfl ?_
    refine x_bipush (v := 8) 30 dX1_end_28 rfl rfl ?_
    refine x_icmp_ge 46 33 dX1_end_30 (by decide) rfl (fun c30 => ?_) (fun c30 => ?_)
    · skip
      have c30 : 8 ≤ k := (nI_leI (a := 8) (b := k) (by omega) (by omega)).mp c30
      have e : k = 8 := by omega
      rw [hI, e]
      refine x_eqR (fun c_ i_ k_ hl_ hx_ => ?_) hx
      by_cases e46 : c_ = 46 ∧ i_ = p
      · obtain ⟨e1_, e2_⟩ := e46; subst e1_; rw [e2_] at hx_ ⊢
        have hi2 : k_ < T.len 46 p := by simpa [xIn] using hx_
        rw [(hk.n46 (by omega))] at hi2
        rw [xur_eq, xfil_in (by omega)]
      rw [xur_n e46, xfil_n e46]
    · skip
      have c30 : ¬ (8 ≤ k) := fun h => c30 ((nI_leI (a := 8) (b := k) (by omega) (by omega)).mpr h)
      refine x_aload_n 34 dX1_end_33 rfl rfl ?_
      refine x_getz 37 dX1_end_34 rfl fl_X1_246 (hk.l9 (by omega)) (hk.z9_4 (by omega)) ?_
      refine x_iload_n 38 dX1_end_37 rfl rfl ?_
      refine x_null 39 dX1_end_38 rfl ?_
      refine x_asN (T.ad 7) ?_
      refine x_astr 40 dX1_end_39 rfl ar_46 (Or.inl ⟨by decide, _, _, _, rfl, rfl⟩) (by decide) (hk.l46 (by omega)) (xb (hk.n46 (by omega)) (by omega) (by omega)) (fun _ h => by cases h) ?_
      refine x_nmR fun R1 hR1 => ?_
      refine x_iinc 43 [(1, .ref (T.ad 0 0)), (1, .ref (T.ad 9 p)), (1, .int cd), (1, .int (nI (k + 1))), xo, xo, xo] dX1_end_40 rfl (by decide) rfl (xi_1 k) rfl ?_
      refine x_goto 27 dX1_end_43 (by decide) ?_
      have e : R1 = xfil R0 46 p 0 (k + 1) (fun _ => none) := by
        rw [hR1, hI]
        rw [xfil_step (by omega) (by first | rfl | simp_all)]
      exact ih _ (by rw [← hm]; omega) (k + 1) R1 rfl (by omega) e
set_option maxHeartbeats 4000000 in
set_option maxRecDepth 100000 in
theorem l2_X1_end {G : xG} {n a b : Nat} {Q : Outcome → xS → Prop} {J : xJ} {Z : xR} {T : xT} {R : xR} {I0 : xI} {N B : Nat} (hk : KS Z T N B) {p : Nat} (hp : p < 16) {cd : Int32} (hq : Q (.returned none) (itA (kAdopt p) I0 16, J, R, Z, T)) (k : Nat) (I : xI) (hn : 1 ≤ n) :
    (k ≤ 16) → (I = itA (kAdopt p) I0 k) → X G mX1_end n a b Q (I, J, R, Z, T) 58 [(1, .ref (T.ad 0 0)), (1, .ref (T.ad 9 p)), (1, .int cd), (1, .ref (T.ad 26 0)), (1, .int (nI 16)), (1, .int (nI k)), xo] [] := by
  induction hm : 16 - k using Nat.strongRecOn generalizing k I with
  | _ m_ ih =>
    intro h8 hI
    refine x_iload 60 dX1_end_58 rfl rfl ?_
    refine x_iload 62 dX1_end_60 rfl rfl ?_
    refine x_icmp_ge 103 65 dX1_end_62 (by decide) rfl (fun c62 => ?_) (fun c62 => ?_)
    · skip
      have c62 : 16 ≤ k := (nI_leI (a := 16) (b := k) (by omega) (by omega)).mp c62
      refine x_vreturn dX1_end_103 rfl ?_
      have e : k = 16 := by omega
      rw [hI, e]; exact hq
    · skip
      have c62 : ¬ (16 ≤ k) := fun h => c62 ((nI_leI (a := 16) (b := k) (by omega) (by omega)).mpr h)
      refine x_aload_n 66 dX1_end_65 rfl rfl ?_
      refine x_iload 68 dX1_end_66 rfl rfl ?_
      refine x_aldz 69 dX1_end_68 rfl ar_26 rfl (hk.l26 (by omega)) (xb (hk.n26 (by omega)) (by omega) (by omega)) (hk.z26 (by omega)) ?_
      refine x_astore 71 [(1, .ref (T.ad 0 0)), (1, .ref (T.ad 9 p)), (1, .int cd), (1, .ref (T.ad 26 0)), (1, .int (nI 16)), (1, .int (nI k)), (1, .ref (T.ad 9 k))] dX1_end_69 rfl (by decide) rfl ?_
      refine x_aload 73 dX1_end_71 rfl rfl ?_
      refine x_geti 76 dX1_end_73 rfl fl_X1_208 (hk.l9 (by omega)) ?_
      refine x_if_eq 97 79 dX1_end_76 (by decide) rfl (fun c76 => ?_) (fun c76 => ?_)
      · skip
        refine x_iinc 100 [(1, .ref (T.ad 0 0)), (1, .ref (T.ad 9 p)), (1, .int cd), (1, .ref (T.ad 26 0)), (1, .int (nI 16)), (1, .int (nI (k + 1))), (1, .ref (T.ad 9 k))] dX1_end_97 rfl (by decide) rfl (xi_1 k) rfl ?_
        refine x_goto 58 dX1_end_100 (by decide) ?_
        refine x_fgt [(1, .ref (T.ad 0 0)), (1, .ref (T.ad 9 p)), (1, .int cd), (1, .ref (T.ad 26 0)), (1, .int (nI 16)), (1, .int (nI (k + 1))), xo] ⟨Or.inr rfl, Or.inr rfl, Or.inr rfl, Or.inr rfl, Or.inr rfl, Or.inr rfl, Or.inl rfl, trivial⟩ ?_
        exact ih _ (by rw [← hm]; omega) (k + 1) I rfl (by omega) (by show _ = kAdopt p (itA (kAdopt p) I0 k) k; rw [← hI]; exact (if_neg (fun h => h.1 c76)).symm)
      · skip
        refine x_aload 81 dX1_end_79 rfl rfl ?_
        refine x_geti 84 dX1_end_81 rfl fl_X1_703 (hk.l9 (by omega)) ?_
        refine x_aload_n 85 dX1_end_84 rfl rfl ?_
        refine x_geti 88 dX1_end_85 rfl fl_X1_346 (hk.l9 (by omega)) ?_
        refine x_icmp_ne 97 91 dX1_end_88 (by decide) rfl (fun c88 => ?_) (fun c88 => ?_)
        · skip
          refine x_iinc 100 [(1, .ref (T.ad 0 0)), (1, .ref (T.ad 9 p)), (1, .int cd), (1, .ref (T.ad 26 0)), (1, .int (nI 16)), (1, .int (nI (k + 1))), (1, .ref (T.ad 9 k))] dX1_end_97 rfl (by decide) rfl (xi_1 k) rfl ?_
          refine x_goto 58 dX1_end_100 (by decide) ?_
          refine x_fgt [(1, .ref (T.ad 0 0)), (1, .ref (T.ad 9 p)), (1, .int cd), (1, .ref (T.ad 26 0)), (1, .int (nI 16)), (1, .int (nI (k + 1))), xo] ⟨Or.inr rfl, Or.inr rfl, Or.inr rfl, Or.inr rfl, Or.inr rfl, Or.inr rfl, Or.inl rfl, trivial⟩ ?_
          exact ih _ (by rw [← hm]; omega) (k + 1) I rfl (by omega) (by show _ = kAdopt p (itA (kAdopt p) I0 k) k; rw [← hI]; exact (if_neg (fun h => c88 h.2)).symm)
        · skip
          refine x_aload 93 dX1_end_91 rfl rfl ?_
          refine x_iconst (v := 0) 94 dX1_end_93 rfl rfl ?_
          refine x_puti 97 dX1_end_94 rfl fl_X1_703 rfl rfl (hk.l9 (by omega)) ?_
          refine x_nmI fun I1 hI1 => ?_
          refine x_iinc 100 [(1, .ref (T.ad 0 0)), (1, .ref (T.ad 9 p)), (1, .int cd), (1, .ref (T.ad 26 0)), (1, .int (nI 16)), (1, .int (nI (k + 1))), (1, .ref (T.ad 9 k))] dX1_end_97 rfl (by decide) rfl (xi_1 k) rfl ?_
          refine x_goto 58 dX1_end_100 (by decide) ?_
          refine x_fgt [(1, .ref (T.ad 0 0)), (1, .ref (T.ad 9 p)), (1, .int cd), (1, .ref (T.ad 26 0)), (1, .int (nI 16)), (1, .int (nI (k + 1))), xo] ⟨Or.inr rfl, Or.inr rfl, Or.inr rfl, Or.inr rfl, Or.inr rfl, Or.inr rfl, Or.inl rfl, trivial⟩ ?_
          exact ih _ (by rw [← hm]; omega) (k + 1) I1 rfl (by omega) (by show _ = kAdopt p (itA (kAdopt p) I0 k) k; rw [← hI, hI1]; exact (if_pos ⟨c76, c88⟩).symm)
set_option maxHeartbeats 4000000 in
set_option maxRecDepth 100000 in
theorem c_X1_end {G : xG} {n : Nat} {Q : Outcome → xS → Prop} {I : xI} {J : xJ} {R Z : xR} {T : xT} {N B : Nat} (hk : KS Z T N B) {p : Nat} (hp : p < 16) {cd : Int32} (hn : 1 ≤ n) (hq : Q (.returned none) (itA (kAdopt p) (kEndI I p cd) 16, J, kEndR R p, Z, T)) : xCall G mX1_end n [.ref (T.ad 0 0), .ref (T.ad 9 p), .int cd] (I, J, R, Z, T) Q := by
  refine x_met (L0 := [(1, .ref (T.ad 0 0)), (1, .ref (T.ad 9 p)), (1, .int cd), xo, xo, xo, xo]) (by decide +kernel) rfl ⟨Nat.le_of_ble_eq_true rfl, rfl⟩ ?_
  refine x_aload_n 1 dX1_end_0 rfl rfl ?_
  refine x_iconst (v := 2) 2 dX1_end_1 rfl rfl ?_
  refine x_puti 5 dX1_end_2 rfl fl_X1_208 rfl rfl (hk.l9 (by omega)) ?_
  refine x_nmI fun I1 hI1 => ?_
  refine x_aload_n 6 dX1_end_5 rfl rfl ?_
  refine x_iload_n 7 dX1_end_6 rfl rfl ?_
  refine x_puti 10 dX1_end_7 rfl fl_X1_718 rfl rfl (hk.l9 (by omega)) ?_
  refine x_nmI fun I2 hI2 => ?_
  refine x_aload_n 11 dX1_end_10 rfl rfl ?_
  refine x_null 12 dX1_end_11 rfl ?_
  refine x_asN (T.ad 6) ?_
  refine x_putr 15 dX1_end_12 rfl fl_X1_194 (Or.inl ⟨_, rfl⟩) (hk.l9 (by omega)) (fun _ h => by cases h) ?_
  refine x_nmR fun R1 hR1 => ?_
  refine x_aload_n 16 dX1_end_15 rfl rfl ?_
  refine x_iconst (v := 0) 17 dX1_end_16 rfl rfl ?_
  refine x_puti 20 dX1_end_17 rfl fl_X1_319 rfl rfl (hk.l9 (by omega)) ?_
  refine x_nmI fun I3 hI3 => ?_
  refine x_aload_n 21 dX1_end_20 rfl rfl ?_
  refine x_iconst (v := 0) 22 dX1_end_21 rfl rfl ?_
  refine x_puti 25 dX1_end_22 rfl fl_X1_357 rfl rfl (hk.l9 (by omega)) ?_
  refine x_nmI fun I4 hI4 => ?_
  refine x_iconst (v := 0) 26 dX1_end_25 rfl rfl ?_
  refine x_istore_n 27 [(1, .ref (T.ad 0 0)), (1, .ref (T.ad 9 p)), (1, .int cd), (1, .int 0), xo, xo, xo] dX1_end_26 rfl (by decide) rfl ?_
  refine l1_X1_end hk hp ?_ hn 0 _ (by omega) (xfil_0 _ _ _ _ _).symm
  refine x_aload_n 47 dX1_end_46 rfl rfl ?_
  refine x_getz 50 dX1_end_47 rfl fl_X1_39 (hk.l0 (by omega)) (hk.z0_8 (by omega)) ?_
  refine x_astore_n 51 [(1, .ref (T.ad 0 0)), (1, .ref (T.ad 9 p)), (1, .int cd), (1, .ref (T.ad 26 0)), xo, xo, xo] dX1_end_50 rfl (by decide) rfl ?_
  refine x_aload_n 52 dX1_end_51 rfl rfl ?_
  refine x_alen 53 dX1_end_52 rfl ar_26 (hk.l26 (by omega)) ?_
  refine x_vi (congrArg nI (hk.n26 (by omega))) ?_
  refine x_istore 55 [(1, .ref (T.ad 0 0)), (1, .ref (T.ad 9 p)), (1, .int cd), (1, .ref (T.ad 26 0)), (1, .int (nI 16)), xo, xo] dX1_end_53 rfl (by decide) rfl ?_
  refine x_iconst (v := 0) 56 dX1_end_55 rfl rfl ?_
  refine x_istore 58 [(1, .ref (T.ad 0 0)), (1, .ref (T.ad 9 p)), (1, .int cd), (1, .ref (T.ad 26 0)), (1, .int (nI 16)), (1, .int 0), xo] dX1_end_56 rfl (by decide) rfl ?_
  rw [hR1, hI4, hI3, hI2, hI1]
  exact l2_X1_end hk hp hq 0 _ hn (by omega) rfl
theorem dX1_drop_0 : decode cX1_drop 0 = .ok (.aload_n 2, 1) := by decide +kernel
theorem dX1_drop_1 : decode cX1_drop 1 = .ok (.aload_n 1, 1) := by decide +kernel
theorem dX1_drop_2 : decode cX1_drop 2 = .ok (.aload_n 2, 1) := by decide +kernel
theorem dX1_drop_3 : decode cX1_drop 3 = .ok (.invokevirtual 652, 3) := by decide +kernel
theorem dX1_drop_6 : decode cX1_drop 6 = .ok (.iconst (-1), 1) := by decide +kernel
theorem dX1_drop_7 : decode cX1_drop 7 = .ok (.aload_n 0, 1) := by decide +kernel
theorem dX1_drop_8 : decode cX1_drop 8 = .ok (.getfield 291, 3) := by decide +kernel
theorem dX1_drop_11 : decode cX1_drop 11 = .ok (.invokevirtual 656, 3) := by decide +kernel
theorem dX1_drop_14 : decode cX1_drop 14 = .ok (.return_, 1) := by decide +kernel
set_option maxHeartbeats 4000000 in
set_option maxRecDepth 100000 in
theorem c_X1_drop {G : xG} {n : Nat} {Q : Outcome → xS → Prop} {I : xI} {J : xJ} {R Z : xR} {T : xT} {N B : Nat} (hk : KS Z T N B) {i st : Nat} (hi : i < 2) {fr lg : Nat → Nat} (hp : PS I i st fr lg) {d : Nat} (h1 : 1 ≤ st) (hd : d < N) {s : Nat} (hs : s < 512) (hsl : iSlot I d (I 27 0) (fr (st - 1)) (lg (st - 1)) = nI s) (hn : 4 ≤ n) (hq : Q (.returned none) (xu (xu I 41 d s (-1 + 1)) 42 d s (I 0 0 21), J, R, Z, T)) : xCall G mX1_drop n [.ref (T.ad 0 0), .ref (T.ad 4 i), .ref (T.ad 6 d)] (I, J, R, Z, T) Q := by
  refine x_met (L0 := [(1, .ref (T.ad 0 0)), (1, .ref (T.ad 4 i)), (1, .ref (T.ad 6 d))]) (by decide +kernel) rfl ⟨Nat.le_of_ble_eq_true rfl, rfl⟩ ?_
  refine x_aload_n 1 dX1_drop_0 rfl rfl ?_
  refine x_aload_n 2 dX1_drop_1 rfl rfl ?_
  refine x_aload_n 3 dX1_drop_2 rfl rfl ?_
  refine x_callV (as := [.ref (T.ad 6 d)]) (rest := [.ref (T.ad 6 d)]) (i := i) (n' := n - 1) 6 dX1_drop_3 rfl mv_X1_652 rfl rfl (hk.l4 (by omega)) (xnh rfl) (by omega) (xst (Nat.le_of_ble_eq_true rfl)) (c_X5_lastSlot hk hi hp h1 hd (by omega) ?_)
  change X _ _ _ _ _ _ _ _ _ _
  refine x_vi hsl ?_
  refine x_iconst (v := -1) 7 dX1_drop_6 rfl rfl ?_
  refine x_aload_n 8 dX1_drop_7 rfl rfl ?_
  refine x_geti 11 dX1_drop_8 rfl fl_X1_291 (hk.l0 (by omega)) ?_
  refine x_callV (as := [.int (nI s), .int (-1), .int (I 0 0 21)]) (rest := []) (i := d) (n' := n - 1) 14 dX1_drop_11 rfl mv_X1_656 rfl rfl (hk.l6 (by omega)) (xnh rfl) (by omega) (xst (Nat.le_of_ble_eq_true rfl)) (c_X7_put hk (by omega) (by omega) (by omega) ?_)
  change X _ _ _ _ _ _ _ _ _ _
  refine x_vreturn dX1_drop_14 rfl ?_
  exact hq
