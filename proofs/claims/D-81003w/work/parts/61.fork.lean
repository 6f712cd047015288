set_option maxRecDepth 100000
noncomputable def kFt (A : xI) : Nat := (fst0 (fun t => A 9 t 1 = 0) 0 16).getD 16
theorem kFt_e {A : xI} {k : Nat} (h8 : k ≤ 16) (hv : ∀ j, j < k → ¬ A 9 j 1 = 0) (hk : k = 16 ∨ A 9 k 1 = 0) : kFt A = k := by
  unfold kFt
  by_cases e : k = 16
  · subst e; rw [fst0_none 16 0 (fun j _ hj => hv j (by omega))]; rfl
  · rw [fst0_some 16 0 k (by omega) (by omega) (hk.resolve_left e) (fun j _ hj => hv j hj)]; rfl
theorem kFt_le {A : xI} : kFt A ≤ 16 := by
  unfold kFt
  cases h : fst0 (fun t => A 9 t 1 = 0) 0 16 with
  | none => exact Nat.le_refl _
  | some k => have := (fst0_spec 16 0 k h).2.1; show k ≤ 16; omega
def kFkI (A : xI) (t : Nat) : xI := xu (xu A 9 t 1 (if A 0 0 21 = 16 then 1 else 3)) 9 t 18 (A 0 0 21)
def kFkR (C : xR) (me t : Nat) : xR := xu (xur C 46 t (va_cpy (C 46 me) (C 46 t) 0 0 8)) 9 t 5 (xur C 46 t (va_cpy (C 46 me) (C 46 t) 0 0 8) 9 me 5)
noncomputable def kDoFork (N : Nat) (s : kK) (me : Nat) : kQ := if kFt s.1 = 16 then kRf s (-11) else kU (kAccess N s me 7 (nI (kFt s.1)) 0 0 1) fun s' =>
  kRt (xu (kFkI (pClrI s'.1 (kFt s.1)) (kFt s.1)) 9 (kFt s.1) 2 (kFkI (pClrI s'.1 (kFt s.1)) (kFt s.1) 9 me 0), kFkR (pClrR s'.2.1 (kFt s.1)) me (kFt s.1), s'.2.2) (nI (kFt s.1))
theorem kRef.cp46 {C : xR} {N me t : Nat} (h : kRef C N) : kRef (xur C 46 t (va_cpy (C 46 me) (C 46 t) 0 0 8)) N :=
  h.ur (fun k o e => ⟨fun _ => va_cpy_in (P := fun r => ∀ o, r = some o → o < 384) (fun j o e => h.row e) (fun j o e => h.row e) o e, fun h => by omega⟩)
theorem dX1_doFork_0 : decode cX1_doFork 0 = .ok (.iconst 0, 1) := by decide +kernel
theorem dX1_doFork_1 : decode cX1_doFork 1 = .ok (.istore_n 1, 1) := by decide +kernel
theorem dX1_doFork_2 : decode cX1_doFork 2 = .ok (.iload_n 1, 1) := by decide +kernel
theorem dX1_doFork_3 : decode cX1_doFork 3 = .ok (.bipush 16, 2) := by decide +kernel
theorem dX1_doFork_5 : decode cX1_doFork 5 = .ok (.if_icmp .ge 21, 3) := by decide +kernel
theorem dX1_doFork_8 : decode cX1_doFork 8 = .ok (.aload_n 0, 1) := by decide +kernel
theorem dX1_doFork_9 : decode cX1_doFork 9 = .ok (.getfield 39, 3) := by decide +kernel
theorem dX1_doFork_12 : decode cX1_doFork 12 = .ok (.iload_n 1, 1) := by decide +kernel
theorem dX1_doFork_13 : decode cX1_doFork 13 = .ok (.aaload, 1) := by decide +kernel
theorem dX1_doFork_14 : decode cX1_doFork 14 = .ok (.getfield 208, 3) := by decide +kernel
theorem dX1_doFork_17 : decode cX1_doFork 17 = .ok (.ifCond .eq 9, 3) := by decide +kernel
theorem dX1_doFork_20 : decode cX1_doFork 20 = .ok (.iinc 1 1, 3) := by decide +kernel
theorem dX1_doFork_23 : decode cX1_doFork 23 = .ok (.goto (-21), 3) := by decide +kernel
theorem dX1_doFork_26 : decode cX1_doFork 26 = .ok (.iload_n 1, 1) := by decide +kernel
theorem dX1_doFork_27 : decode cX1_doFork 27 = .ok (.bipush 16, 2) := by decide +kernel
theorem dX1_doFork_29 : decode cX1_doFork 29 = .ok (.if_icmp .ne 13, 3) := by decide +kernel
theorem dX1_doFork_32 : decode cX1_doFork 32 = .ok (.aload_n 0, 1) := by decide +kernel
theorem dX1_doFork_33 : decode cX1_doFork 33 = .ok (.getfield 53, 3) := by decide +kernel
theorem dX1_doFork_36 : decode cX1_doFork 36 = .ok (.bipush (-11), 2) := by decide +kernel
theorem dX1_doFork_38 : decode cX1_doFork 38 = .ok (.invokevirtual 364, 3) := by decide +kernel
theorem dX1_doFork_41 : decode cX1_doFork 41 = .ok (.athrow, 1) := by decide +kernel
theorem dX1_doFork_42 : decode cX1_doFork 42 = .ok (.aload_n 0, 1) := by decide +kernel
theorem dX1_doFork_43 : decode cX1_doFork 43 = .ok (.bipush 7, 2) := by decide +kernel
theorem dX1_doFork_45 : decode cX1_doFork 45 = .ok (.iload_n 1, 1) := by decide +kernel
theorem dX1_doFork_46 : decode cX1_doFork 46 = .ok (.invokevirtual 588, 3) := by decide +kernel
theorem dX1_doFork_49 : decode cX1_doFork 49 = .ok (.aload_n 0, 1) := by decide +kernel
theorem dX1_doFork_50 : decode cX1_doFork 50 = .ok (.getfield 39, 3) := by decide +kernel
theorem dX1_doFork_53 : decode cX1_doFork 53 = .ok (.iload_n 1, 1) := by decide +kernel
theorem dX1_doFork_54 : decode cX1_doFork 54 = .ok (.aaload, 1) := by decide +kernel
theorem dX1_doFork_55 : decode cX1_doFork 55 = .ok (.astore_n 2, 1) := by decide +kernel
theorem dX1_doFork_56 : decode cX1_doFork 56 = .ok (.aload_n 2, 1) := by decide +kernel
theorem dX1_doFork_57 : decode cX1_doFork 57 = .ok (.invokevirtual 201, 3) := by decide +kernel
theorem dX1_doFork_60 : decode cX1_doFork 60 = .ok (.aload_n 2, 1) := by decide +kernel
theorem dX1_doFork_61 : decode cX1_doFork 61 = .ok (.aload_n 0, 1) := by decide +kernel
theorem dX1_doFork_62 : decode cX1_doFork 62 = .ok (.getfield 291, 3) := by decide +kernel
theorem dX1_doFork_65 : decode cX1_doFork 65 = .ok (.bipush 16, 2) := by decide +kernel
theorem dX1_doFork_67 : decode cX1_doFork 67 = .ok (.if_icmp .ne 7, 3) := by decide +kernel
theorem dX1_doFork_70 : decode cX1_doFork 70 = .ok (.iconst 1, 1) := by decide +kernel
theorem dX1_doFork_71 : decode cX1_doFork 71 = .ok (.goto 4, 3) := by decide +kernel
theorem dX1_doFork_74 : decode cX1_doFork 74 = .ok (.iconst 3, 1) := by decide +kernel
theorem dX1_doFork_75 : decode cX1_doFork 75 = .ok (.putfield 208, 3) := by decide +kernel
theorem dX1_doFork_78 : decode cX1_doFork 78 = .ok (.aload_n 2, 1) := by decide +kernel
theorem dX1_doFork_79 : decode cX1_doFork 79 = .ok (.aload_n 0, 1) := by decide +kernel
theorem dX1_doFork_80 : decode cX1_doFork 80 = .ok (.getfield 291, 3) := by decide +kernel
theorem dX1_doFork_83 : decode cX1_doFork 83 = .ok (.putfield 341, 3) := by decide +kernel
theorem dX1_doFork_86 : decode cX1_doFork 86 = .ok (.aload_n 2, 1) := by decide +kernel
theorem dX1_doFork_87 : decode cX1_doFork 87 = .ok (.aload_n 0, 1) := by decide +kernel
theorem dX1_doFork_88 : decode cX1_doFork 88 = .ok (.getfield 371, 3) := by decide +kernel
theorem dX1_doFork_91 : decode cX1_doFork 91 = .ok (.getfield 346, 3) := by decide +kernel
theorem dX1_doFork_94 : decode cX1_doFork 94 = .ok (.putfield 703, 3) := by decide +kernel
theorem dX1_doFork_97 : decode cX1_doFork 97 = .ok (.aload_n 0, 1) := by decide +kernel
theorem dX1_doFork_98 : decode cX1_doFork 98 = .ok (.getfield 371, 3) := by decide +kernel
theorem dX1_doFork_101 : decode cX1_doFork 101 = .ok (.getfield 246, 3) := by decide +kernel
theorem dX1_doFork_104 : decode cX1_doFork 104 = .ok (.iconst 0, 1) := by decide +kernel
theorem dX1_doFork_105 : decode cX1_doFork 105 = .ok (.aload_n 2, 1) := by decide +kernel
theorem dX1_doFork_106 : decode cX1_doFork 106 = .ok (.getfield 246, 3) := by decide +kernel
theorem dX1_doFork_109 : decode cX1_doFork 109 = .ok (.iconst 0, 1) := by decide +kernel
theorem dX1_doFork_110 : decode cX1_doFork 110 = .ok (.bipush 8, 2) := by decide +kernel
theorem dX1_doFork_112 : decode cX1_doFork 112 = .ok (.invokestatic 148, 3) := by decide +kernel
theorem dX1_doFork_115 : decode cX1_doFork 115 = .ok (.aload_n 2, 1) := by decide +kernel
theorem dX1_doFork_116 : decode cX1_doFork 116 = .ok (.aload_n 0, 1) := by decide +kernel
theorem dX1_doFork_117 : decode cX1_doFork 117 = .ok (.getfield 371, 3) := by decide +kernel
theorem dX1_doFork_120 : decode cX1_doFork 120 = .ok (.getfield 194, 3) := by decide +kernel
theorem dX1_doFork_123 : decode cX1_doFork 123 = .ok (.putfield 194, 3) := by decide +kernel
theorem dX1_doFork_126 : decode cX1_doFork 126 = .ok (.iload_n 1, 1) := by decide +kernel
theorem dX1_doFork_127 : decode cX1_doFork 127 = .ok (.ireturn, 1) := by decide +kernel
set_option maxHeartbeats 4000000 in
set_option maxRecDepth 100000 in
theorem l_X1_doFork {G : xG} {n a b : Nat} {Q : Outcome → xS → Prop} {x : kX} {I : xI} {R : xR} {v : kV} {th : List xTh} (hT : KT x v th) (hx : X G mX1_doFork n a b Q (kS I R x v) 26 [(1, .ref (x.ad 0 0)), (1, .int (nI (kFt I))), xo] []) (k : Nat) (hn : 1 ≤ n) :
    (k ≤ 16) → (∀ j, j < k → ¬ I 9 j 1 = 0) → X G mX1_doFork n a b Q (kS I R x v) 2 [(1, .ref (x.ad 0 0)), (1, .int (nI k)), xo] [] := by
  induction hm : 16 - k using Nat.strongRecOn generalizing k with
  | _ m_ ih =>
    intro h8 hv
    refine x_iload_n 3 dX1_doFork_2 rfl rfl ?_
    refine x_bipush (v := 16) 5 dX1_doFork_3 rfl rfl ?_
    refine x_icmp_ge 26 8 dX1_doFork_5 (by decide) rfl (fun c5 => ?_) (fun c5 => ?_)
    · skip
      have c5 : 16 ≤ k := (nI_leI (a := 16) (b := k) (by omega) (by omega)).mp c5
      have e_ := kFt_e (A := I) h8 hv (Or.inl (by omega))
      rw [e_] at hx; exact hx
    · skip
      have c5 : ¬ (16 ≤ k) := fun h => c5 ((nI_leI (a := 16) (b := k) (by omega) (by omega)).mpr h)
      refine x_aload_n 9 dX1_doFork_8 rfl rfl ?_
      refine x_getz 12 dX1_doFork_9 rfl fl_X1_39 (hT.ks.l0 (by omega)) (hT.ks.z0_8 (by omega)) ?_
      refine x_iload_n 13 dX1_doFork_12 rfl rfl ?_
      refine x_aldz 14 dX1_doFork_13 rfl ar_26 rfl (hT.ks.l26 (by omega)) (xb (hT.ks.n26 (by omega)) (by omega) (by omega)) (hT.ks.z26 (by omega)) ?_
      refine x_geti 17 dX1_doFork_14 rfl fl_X1_208 (hT.ks.l9 (by omega)) ?_
      refine x_vi (w := I 9 k 1) rfl ?_
      refine x_if_eq 26 20 dX1_doFork_17 (by decide) rfl (fun c17 => ?_) (fun c17 => ?_)
      · skip
        have e_ := kFt_e (A := I) h8 hv (Or.inr c17)
        rw [e_] at hx; exact hx
      · skip
        refine x_iinc 23 [(1, .ref (x.ad 0 0)), (1, .int (nI (k + 1))), xo] dX1_doFork_20 rfl (by decide) rfl (xi_1 k) rfl ?_
        refine x_goto 2 dX1_doFork_23 (by decide) ?_
        exact ih _ (by rw [← hm]; omega) (k + 1) rfl (by omega) (lt_succ_of (P := fun j => ¬ I 9 j 1 = 0) hv c17)
set_option maxHeartbeats 4000000 in
set_option maxRecDepth 100000 in
theorem c_X1_doFork {G : xG} {n : Nat} {Q : Outcome → xS → Prop} {x : kX} {I : xI} {R : xR} {v : kV} {th : List xTh} {mm : Nat} (hT : KT x v th) (hK : KI (I, R, th) x.N mm)  (hmm : mm + 100 < 16384) {me : Nat} (hme : R 0 0 19 = some me) (hme16 : me < 16) (hn : 14 ≤ n) (hq : kOs Q x (kDoFork x.N (I, R, th) me)) : xCall G mX1_doFork n [.ref (x.ad 0 0)] (kS I R x v) Q := by
  refine x_met (L0 := [(1, .ref (x.ad 0 0)), xo, xo]) (by decide +kernel) rfl ⟨Nat.le_of_ble_eq_true rfl, rfl⟩ ?_
  have hnb := hT.ks.nb
  unfold kDoFork at hq
  refine x_iconst (v := 0) 1 dX1_doFork_0 rfl rfl ?_
  refine x_istore_n 2 [(1, .ref (x.ad 0 0)), (1, .int 0), xo] dX1_doFork_1 rfl (by decide) rfl ?_
  refine l_X1_doFork (R := R) hT ?_ 0 (by omega) (by omega) (fun j hj => absurd hj (by omega))
  have hft := kFt_le (A := I)
  refine x_iload_n 27 dX1_doFork_26 rfl rfl ?_
  refine x_bipush (v := 16) 29 dX1_doFork_27 rfl rfl ?_
  refine x_icmp_ne 42 32 dX1_doFork_29 (by decide) rfl (fun c29 => ?_) (fun c29 => ?_)
  · skip
    have c29 : ¬ (kFt I = 16) := fun h => c29 ((nI_eq (a := kFt I) (b := 16) (by omega) (by omega)).mpr h)
    rw [if_neg (show ¬ kFt (I, R, th).1 = 16 by show ¬ kFt I = 16; omega)] at hq
    obtain ⟨t_, ht_⟩ : ∃ t_, t_ = kFt I := ⟨_, rfl⟩
    rw [show kFt (I, R, th).1 = t_ from ht_.symm] at hq
    rw [← ht_]
    rw [← ht_] at c29 hft
    refine x_aload_n 43 dX1_doFork_42 rfl rfl ?_
    refine x_bipush (v := 7) 45 dX1_doFork_43 rfl rfl ?_
    refine x_iload_n 46 dX1_doFork_45 rfl rfl ?_
    obtain ⟨r_1, hd1⟩ : ∃ r : kO, r = kAccess x.N (I, R, th) me 7 (nI t_) 0 0 1 := ⟨_, rfl⟩
    rw [← hd1] at hq
    have hK_1 : KI r_1.2 x.N (mm + 1) := by rw [hd1]; exact hK.access (hoaN (g := 7) (by omega) kOf7)
    have hS_1 : kSx (I, R, th) r_1.2 := (kSx.rfl (s := (I, R, th))).trans (by rw [hd1]; exact sx_access)
    refine x_callV (as := [.int 7, .int (nI t_)]) (rest := []) (i := 0) (n' := n - 1) 49 dX1_doFork_46 rfl mv_X1_588 rfl rfl (hT.ks.l0 (by omega)) (xnh rfl) (by omega) (xst (Nat.le_of_ble_eq_true rfl)) (c_X1_writes (g := 7) (oa := nI t_) hT hK (hoaN (g := 7) (by omega) kOf7) (by omega) ((kSx.rfl (s := (I, R, th))).2 0 0 19 rfl |>.trans hme) hme16 (by omega) (kOutN hd1 ⟨?_, ?_⟩))
    · skip
      intro hz1 w1 hU1
      change X _ _ _ _ _ _ _ _ _ _
      rw [kU_ok hz1] at hq
      refine x_aload_n 50 dX1_doFork_49 rfl rfl ?_
      refine x_getz 53 dX1_doFork_50 rfl fl_X1_39 (hU1.ks.l0 (by omega)) (hU1.ks.z0_8 (by omega)) ?_
      refine x_iload_n 54 dX1_doFork_53 rfl rfl ?_
      refine x_aldz 55 dX1_doFork_54 rfl ar_26 rfl (hU1.ks.l26 (by omega)) (xb (hU1.ks.n26 (by omega)) (by omega) (by omega)) (hU1.ks.z26 (by omega)) ?_
      refine x_astore_n 56 [(1, .ref (x.ad 0 0)), (1, .int (nI t_)), (1, .ref (x.ad 9 t_))] dX1_doFork_55 rfl (by decide) rfl ?_
      refine x_aload_n 57 dX1_doFork_56 rfl rfl ?_
      refine x_callV (as := []) (rest := []) (i := t_) (n' := n - 1) 60 dX1_doFork_57 rfl mv_X1_201 rfl rfl (hU1.ks.l9 (by omega)) (xnh rfl) (by omega) (xst (Nat.le_of_ble_eq_true rfl)) (c_X10_clear hU1.ks (by omega) (by omega) ?_)
      change X _ _ _ _ _ _ _ _ _ _
      refine k_nmA (v := w1) (A1 := (pClrI r_1.2.1 t_)) kI_pClrI fun I1 hI1 => ?_
      refine k_nmC (v := w1) (C1 := (pClrR r_1.2.2.1 t_)) kR_pClrR fun R1 hR1 => ?_
      have hrC : kRef R1 x.N := by rw [hR1]; exact hK_1.rf.pClr
      have hme1 : R1 0 0 19 = some me := by rw [hR1]; unfold pClrR pEndR; rw [xur_c (by decide), xu_k (by decide), xur_c (by decide), xu_k (by decide)]; exact ((hS_1).2 0 0 19 rfl |>.trans hme)
      refine x_aload_n 61 dX1_doFork_60 rfl rfl ?_
      refine x_aload_n 62 dX1_doFork_61 rfl rfl ?_
      refine x_geti 65 dX1_doFork_62 rfl fl_X1_291 (hU1.ks.l0 (by omega)) ?_
      refine x_vi (w := I1 0 0 21) rfl ?_
      refine x_bipush (v := 16) 67 dX1_doFork_65 rfl rfl ?_
      refine x_icmp_ne 74 70 dX1_doFork_67 (by decide) rfl (fun c67 => ?_) (fun c67 => ?_)
      · skip
        refine x_iconst (v := 3) 75 dX1_doFork_74 rfl rfl ?_
        refine x_puti 78 dX1_doFork_75 rfl fl_X1_208 rfl rfl (hU1.ks.l9 (by omega)) ?_
        refine k_nmA (v := w1) (kI_xu (c := 9) rfl) fun I2 hI2 => ?_
        have eS : I2 = xu I1 9 t_ 1 (if I1 0 0 21 = 16 then 1 else 3) := by rw [hI2]; first | rw [if_pos c67] | rw [if_neg c67]
        clear hI2
        refine x_aload_n 79 dX1_doFork_78 rfl rfl ?_
        refine x_aload_n 80 dX1_doFork_79 rfl rfl ?_
        refine x_geti 83 dX1_doFork_80 rfl fl_X1_291 (hU1.ks.l0 (by omega)) ?_
        refine x_vi (w := I2 0 0 21) rfl ?_
        refine x_puti 86 dX1_doFork_83 rfl fl_X1_341 rfl rfl (hU1.ks.l9 (by omega)) ?_
        refine k_nmA (v := w1) (kI_xu (c := 9) rfl) fun I3 hI3 => ?_
        refine x_aload_n 87 dX1_doFork_86 rfl rfl ?_
        refine x_aload_n 88 dX1_doFork_87 rfl rfl ?_
        refine x_gets 91 dX1_doFork_88 rfl fl_X1_371 (hU1.ks.l0 (by omega)) hme1 ?_
        refine x_geti 94 dX1_doFork_91 rfl fl_X1_346 (hU1.ks.l9 (by omega)) ?_
        refine x_vi (w := I3 9 me 0) rfl ?_
        refine x_puti 97 dX1_doFork_94 rfl fl_X1_703 rfl rfl (hU1.ks.l9 (by omega)) ?_
        refine k_nmA (v := w1) (kI_xu (c := 9) rfl) fun I4 hI4 => ?_
        refine x_aload_n 98 dX1_doFork_97 rfl rfl ?_
        refine x_gets 101 dX1_doFork_98 rfl fl_X1_371 (hU1.ks.l0 (by omega)) hme1 ?_
        refine x_getz 104 dX1_doFork_101 rfl fl_X1_246 (hU1.ks.l9 (by omega)) (hU1.ks.z9_4 (by omega)) ?_
        refine x_iconst (v := 0) 105 dX1_doFork_104 rfl rfl ?_
        refine x_aload_n 106 dX1_doFork_105 rfl rfl ?_
        refine x_getz 109 dX1_doFork_106 rfl fl_X1_246 (hU1.ks.l9 (by omega)) (hU1.ks.z9_4 (by omega)) ?_
        refine x_iconst (v := 0) 110 dX1_doFork_109 rfl rfl ?_
        refine x_bipush (v := 8) 112 dX1_doFork_110 rfl rfl ?_
        refine x_copyr (sp := 0) (dp := 0) (m := 8) 115 dX1_doFork_112 rfl cp_X1_148 ar_46 ar_46 ⟨by decide, _, _, _, rfl, rfl⟩ (hU1.ks.l46 (by omega)) (hU1.ks.l46 (by omega)) (by decide) (by omega) (xst (Nat.le_of_ble_eq_true rfl)) ⟨by omega, by omega, by omega⟩ (by rw [(hU1.ks.n46 (by omega))]; omega) (by rw [(hU1.ks.n46 (by omega))]; omega) (fun k j h _ => hU1.ks.l7 (hrC.row h)) ?_
        refine k_nmC (v := w1) (C1 := xur R1 46 t_ (va_cpy (R1 46 me) (R1 46 t_) 0 0 8)) (kR_xur (c := 46) rfl) fun R2 hR2 => ?_
        have hrD : kRef R2 x.N := by rw [hR2]; exact hrC.cp46
        have hme2 : R2 0 0 19 = some me := by rw [hR2, xur_c (by decide)]; exact hme1
        refine x_aload_n 116 dX1_doFork_115 rfl rfl ?_
        refine x_aload_n 117 dX1_doFork_116 rfl rfl ?_
        refine x_gets 120 dX1_doFork_117 rfl fl_X1_371 (hU1.ks.l0 (by omega)) hme2 ?_
        refine x_getr 123 dX1_doFork_120 rfl fl_X1_194 (hU1.ks.l9 (by omega)) ?_
        refine x_vr (w := R2 9 me 5) rfl ?_
        refine x_putr 126 dX1_doFork_123 rfl fl_X1_194 (Or.inl ⟨_, rfl⟩) (hU1.ks.l9 (by omega)) (fun _ h => hU1.ks.l6 (hrD.wk h)) ?_
        refine k_nmC (v := w1) (kR_xu (c := 9) rfl) fun R3 hR3 => ?_
        refine x_iload_n 127 dX1_doFork_126 rfl rfl ?_
        refine x_ireturn dX1_doFork_127 rfl ?_
        have eI : I4 = xu (kFkI I1 t_) 9 t_ 2 (kFkI I1 t_ 9 me 0) := by rw [hI4, hI3, eS]; unfold kFkI; rw [xu_c (c := 9) (c' := 0) (by decide)]
        rw [eI, hI1, hR3, hR2, hR1]
        exact hq.ret hU1
      · skip
        refine x_iconst (v := 1) 71 dX1_doFork_70 rfl rfl ?_
        refine x_goto 75 dX1_doFork_71 (by decide) ?_
        refine x_puti 78 dX1_doFork_75 rfl fl_X1_208 rfl rfl (hU1.ks.l9 (by omega)) ?_
        refine k_nmA (v := w1) (kI_xu (c := 9) rfl) fun I2 hI2 => ?_
        have eS : I2 = xu I1 9 t_ 1 (if I1 0 0 21 = 16 then 1 else 3) := by rw [hI2]; first | rw [if_pos c67] | rw [if_neg c67]
        clear hI2
        refine x_aload_n 79 dX1_doFork_78 rfl rfl ?_
        refine x_aload_n 80 dX1_doFork_79 rfl rfl ?_
        refine x_geti 83 dX1_doFork_80 rfl fl_X1_291 (hU1.ks.l0 (by omega)) ?_
        refine x_vi (w := I2 0 0 21) rfl ?_
        refine x_puti 86 dX1_doFork_83 rfl fl_X1_341 rfl rfl (hU1.ks.l9 (by omega)) ?_
        refine k_nmA (v := w1) (kI_xu (c := 9) rfl) fun I3 hI3 => ?_
        refine x_aload_n 87 dX1_doFork_86 rfl rfl ?_
        refine x_aload_n 88 dX1_doFork_87 rfl rfl ?_
        refine x_gets 91 dX1_doFork_88 rfl fl_X1_371 (hU1.ks.l0 (by omega)) hme1 ?_
        refine x_geti 94 dX1_doFork_91 rfl fl_X1_346 (hU1.ks.l9 (by omega)) ?_
        refine x_vi (w := I3 9 me 0) rfl ?_
        refine x_puti 97 dX1_doFork_94 rfl fl_X1_703 rfl rfl (hU1.ks.l9 (by omega)) ?_
        refine k_nmA (v := w1) (kI_xu (c := 9) rfl) fun I4 hI4 => ?_
        refine x_aload_n 98 dX1_doFork_97 rfl rfl ?_
        refine x_gets 101 dX1_doFork_98 rfl fl_X1_371 (hU1.ks.l0 (by omega)) hme1 ?_
        refine x_getz 104 dX1_doFork_101 rfl fl_X1_246 (hU1.ks.l9 (by omega)) (hU1.ks.z9_4 (by omega)) ?_
        refine x_iconst (v := 0) 105 dX1_doFork_104 rfl rfl ?_
        refine x_aload_n 106 dX1_doFork_105 rfl rfl ?_
        refine x_getz 109 dX1_doFork_106 rfl fl_X1_246 (hU1.ks.l9 (by omega)) (hU1.ks.z9_4 (by omega)) ?_
        refine x_iconst (v := 0) 110 dX1_doFork_109 rfl rfl ?_
        refine x_bipush (v := 8) 112 dX1_doFork_110 rfl rfl ?_
        refine x_copyr (sp := 0) (dp := 0) (m := 8) 115 dX1_doFork_112 rfl cp_X1_148 ar_46 ar_46 ⟨by decide, _, _, _, rfl, rfl⟩ (hU1.ks.l46 (by omega)) (hU1.ks.l46 (by omega)) (by decide) (by omega) (xst (Nat.le_of_ble_eq_true rfl)) ⟨by omega, by omega, by omega⟩ (by rw [(hU1.ks.n46 (by omega))]; omega) (by rw [(hU1.ks.n46 (by omega))]; omega) (fun k j h _ => hU1.ks.l7 (hrC.row h)) ?_
        refine k_nmC (v := w1) (C1 := xur R1 46 t_ (va_cpy (R1 46 me) (R1 46 t_) 0 0 8)) (kR_xur (c := 46) rfl) fun R2 hR2 => ?_
        have hrD : kRef R2 x.N := by rw [hR2]; exact hrC.cp46
        have hme2 : R2 0 0 19 = some me := by rw [hR2, xur_c (by decide)]; exact hme1
        refine x_aload_n 116 dX1_doFork_115 rfl rfl ?_
        refine x_aload_n 117 dX1_doFork_116 rfl rfl ?_
        refine x_gets 120 dX1_doFork_117 rfl fl_X1_371 (hU1.ks.l0 (by omega)) hme2 ?_
        refine x_getr 123 dX1_doFork_120 rfl fl_X1_194 (hU1.ks.l9 (by omega)) ?_
        refine x_vr (w := R2 9 me 5) rfl ?_
        refine x_putr 126 dX1_doFork_123 rfl fl_X1_194 (Or.inl ⟨_, rfl⟩) (hU1.ks.l9 (by omega)) (fun _ h => hU1.ks.l6 (hrD.wk h)) ?_
        refine k_nmC (v := w1) (kR_xu (c := 9) rfl) fun R3 hR3 => ?_
        refine x_iload_n 127 dX1_doFork_126 rfl rfl ?_
        refine x_ireturn dX1_doFork_127 rfl ?_
        have eI : I4 = xu (kFkI I1 t_) 9 t_ 2 (kFkI I1 t_ 9 me 0) := by rw [hI4, hI3, eS]; unfold kFkI; rw [xu_c (c := 9) (c' := 0) (by decide)]
        rw [eI, hI1, hR3, hR2, hR1]
        exact hq.ret hU1
    · skip
      intro hz1 w1 hU1
      rw [kU_no hz1] at hq
      exact hq.no hz1 hU1
  · skip
    have c29 : kFt I = 16 := (nI_eq (a := kFt I) (b := 16) (by omega) (by omega)).mp c29
    rw [if_pos (show kFt (I, R, th).1 = 16 by show kFt I = 16; omega)] at hq
    refine x_aload_n 33 dX1_doFork_32 rfl rfl ?_
    refine x_getz 36 dX1_doFork_33 rfl fl_X1_53 (hT.ks.l0 (by omega)) (hT.ks.z0_10 (by omega)) ?_
    refine x_bipush (v := -11) 38 dX1_doFork_36 rfl rfl ?_
    refine x_callV (as := [.int (-11)]) (rest := []) (i := 0) (n' := n - 1) 41 dX1_doFork_38 rfl mv_X1_364 rfl rfl (hT.ks.l3 (by omega)) (xnh rfl) (by omega) (xst (Nat.le_of_ble_eq_true rfl)) (c_X4_by hT.ks (by omega) ?_)
    change X _ _ _ _ _ _ _ _ _ _
    refine k_nmA (v := v) (A1 := (xu I 3 0 0 ((-11)))) (by (repeat (first | rw [kI_xu] | rw [kI_xur] | rw [kI_xfil])) <;> rfl) fun I1 hI1 => ?_
    refine x_athrow dX1_doFork_41 (xnh rfl) ?_
    rw [hI1]
    exact hq.thr (by decide) hT
def kBg0 (A : xI) (me : Nat) : xI := xu (xu A 0 0 15 (A 0 0 15 + 1)) 9 me 9 (A 0 0 15 + 1)
def kBg1 (s : kK) (me : Nat) : kQ := kRt (xu s.1 9 me 8 (s.1 9 me 8 + 1), s.2.1, s.2.2) (s.1 9 me 8 + 1)
def kDoBegin (s : kK) (me : Nat) : kQ := if s.1 9 me 8 = 20 then kRf s (-11) else if s.1 9 me 8 = 0 then kBg1 (kBg0 s.1 me, pBegR s.2.1 me, s.2.2) me else kBg1 s me
theorem dX1_doBegin_0 : decode cX1_doBegin 0 = .ok (.aload_n 0, 1) := by decide +kernel
theorem dX1_doBegin_1 : decode cX1_doBegin 1 = .ok (.getfield 371, 3) := by decide +kernel
theorem dX1_doBegin_4 : decode cX1_doBegin 4 = .ok (.getfield 596, 3) := by decide +kernel
theorem dX1_doBegin_7 : decode cX1_doBegin 7 = .ok (.bipush 20, 2) := by decide +kernel
theorem dX1_doBegin_9 : decode cX1_doBegin 9 = .ok (.if_icmp .ne 13, 3) := by decide +kernel
theorem dX1_doBegin_12 : decode cX1_doBegin 12 = .ok (.aload_n 0, 1) := by decide +kernel
theorem dX1_doBegin_13 : decode cX1_doBegin 13 = .ok (.getfield 53, 3) := by decide +kernel
theorem dX1_doBegin_16 : decode cX1_doBegin 16 = .ok (.bipush (-11), 2) := by decide +kernel
theorem dX1_doBegin_18 : decode cX1_doBegin 18 = .ok (.invokevirtual 364, 3) := by decide +kernel
theorem dX1_doBegin_21 : decode cX1_doBegin 21 = .ok (.athrow, 1) := by decide +kernel
theorem dX1_doBegin_22 : decode cX1_doBegin 22 = .ok (.aload_n 0, 1) := by decide +kernel
theorem dX1_doBegin_23 : decode cX1_doBegin 23 = .ok (.getfield 371, 3) := by decide +kernel
theorem dX1_doBegin_26 : decode cX1_doBegin 26 = .ok (.getfield 596, 3) := by decide +kernel
theorem dX1_doBegin_29 : decode cX1_doBegin 29 = .ok (.ifCond .ne 21, 3) := by decide +kernel
theorem dX1_doBegin_32 : decode cX1_doBegin 32 = .ok (.aload_n 0, 1) := by decide +kernel
theorem dX1_doBegin_33 : decode cX1_doBegin 33 = .ok (.getfield 371, 3) := by decide +kernel
theorem dX1_doBegin_36 : decode cX1_doBegin 36 = .ok (.aload_n 0, 1) := by decide +kernel
theorem dX1_doBegin_37 : decode cX1_doBegin 37 = .ok (.dup, 1) := by decide +kernel
theorem dX1_doBegin_38 : decode cX1_doBegin 38 = .ok (.getfield 167, 3) := by decide +kernel
theorem dX1_doBegin_41 : decode cX1_doBegin 41 = .ok (.iconst 1, 1) := by decide +kernel
theorem dX1_doBegin_42 : decode cX1_doBegin 42 = .ok (.iadd, 1) := by decide +kernel
theorem dX1_doBegin_43 : decode cX1_doBegin 43 = .ok (.dup_x1, 1) := by decide +kernel
theorem dX1_doBegin_44 : decode cX1_doBegin 44 = .ok (.putfield 167, 3) := by decide +kernel
theorem dX1_doBegin_47 : decode cX1_doBegin 47 = .ok (.invokevirtual 727, 3) := by decide +kernel
theorem dX1_doBegin_50 : decode cX1_doBegin 50 = .ok (.aload_n 0, 1) := by decide +kernel
theorem dX1_doBegin_51 : decode cX1_doBegin 51 = .ok (.getfield 371, 3) := by decide +kernel
theorem dX1_doBegin_54 : decode cX1_doBegin 54 = .ok (.dup, 1) := by decide +kernel
theorem dX1_doBegin_55 : decode cX1_doBegin 55 = .ok (.getfield 596, 3) := by decide +kernel
theorem dX1_doBegin_58 : decode cX1_doBegin 58 = .ok (.iconst 1, 1) := by decide +kernel
theorem dX1_doBegin_59 : decode cX1_doBegin 59 = .ok (.iadd, 1) := by decide +kernel
theorem dX1_doBegin_60 : decode cX1_doBegin 60 = .ok (.dup_x1, 1) := by decide +kernel
theorem dX1_doBegin_61 : decode cX1_doBegin 61 = .ok (.putfield 596, 3) := by decide +kernel
theorem dX1_doBegin_64 : decode cX1_doBegin 64 = .ok (.ireturn, 1) := by decide +kernel
set_option maxHeartbeats 4000000 in
set_option maxRecDepth 100000 in
theorem c_X1_doBegin {G : xG} {n : Nat} {Q : Outcome → xS → Prop} {x : kX} {I : xI} {R : xR} {v : kV} {th : List xTh} {mm : Nat} (hT : KT x v th) (hK : KI (I, R, th) x.N mm)  (hmm : mm + 100 < 16384) {me : Nat} (hme : R 0 0 19 = some me) (hme16 : me < 16) (hn : 14 ≤ n) (hq : kOs Q x (kDoBegin (I, R, th) me)) : xCall G mX1_doBegin n [.ref (x.ad 0 0)] (kS I R x v) Q := by
  refine x_met (L0 := [(1, .ref (x.ad 0 0))]) (by decide +kernel) rfl ⟨Nat.le_of_ble_eq_true rfl, rfl⟩ ?_
  have hnb := hT.ks.nb
  unfold kDoBegin at hq
  refine x_aload_n 1 dX1_doBegin_0 rfl rfl ?_
  refine x_gets 4 dX1_doBegin_1 rfl fl_X1_371 (hT.ks.l0 (by omega)) hme ?_
  refine x_geti 7 dX1_doBegin_4 rfl fl_X1_596 (hT.ks.l9 (by omega)) ?_
  refine x_vi (w := I 9 me 8) rfl ?_
  refine x_bipush (v := 20) 9 dX1_doBegin_7 rfl rfl ?_
  refine x_icmp_ne 22 12 dX1_doBegin_9 (by decide) rfl (fun c9 => ?_) (fun c9 => ?_)
  · skip
    rw [if_neg c9] at hq
    refine x_aload_n 23 dX1_doBegin_22 rfl rfl ?_
    refine x_gets 26 dX1_doBegin_23 rfl fl_X1_371 (hT.ks.l0 (by omega)) hme ?_
    refine x_geti 29 dX1_doBegin_26 rfl fl_X1_596 (hT.ks.l9 (by omega)) ?_
    refine x_vi (w := I 9 me 8) rfl ?_
    refine x_if_ne 50 32 dX1_doBegin_29 (by decide) rfl (fun c29 => ?_) (fun c29 => ?_)
    · skip
      rw [if_neg c29] at hq
      unfold kBg1 at hq
      refine x_aload_n 51 dX1_doBegin_50 rfl rfl ?_
      refine x_gets 54 dX1_doBegin_51 rfl fl_X1_371 (hT.ks.l0 (by omega)) hme ?_
      refine x_dup 55 dX1_doBegin_54 rfl rfl ?_
      refine x_geti 58 dX1_doBegin_55 rfl fl_X1_596 (hT.ks.l9 (by omega)) ?_
      refine x_vi (w := I 9 me 8) rfl ?_
      refine x_iconst (v := 1) 59 dX1_doBegin_58 rfl rfl ?_
      refine x_iadd 60 dX1_doBegin_59 rfl ?_
      refine x_nmi fun x1 hx1 => ?_
      refine x_dup_x1 61 dX1_doBegin_60 rfl rfl rfl ?_
      refine x_puti 64 dX1_doBegin_61 rfl fl_X1_596 rfl rfl (hT.ks.l9 (by omega)) ?_
      refine k_nmA (v := v) (kI_xu (c := 9) rfl) fun I1 hI1 => ?_
      refine x_ireturn dX1_doBegin_64 rfl ?_
      rw [hI1, hx1]
      exact hq.ret hT
    · skip
      rw [if_pos c29] at hq
      refine x_aload_n 33 dX1_doBegin_32 rfl rfl ?_
      refine x_gets 36 dX1_doBegin_33 rfl fl_X1_371 (hT.ks.l0 (by omega)) hme ?_
      refine x_aload_n 37 dX1_doBegin_36 rfl rfl ?_
      refine x_dup 38 dX1_doBegin_37 rfl rfl ?_
      refine x_geti 41 dX1_doBegin_38 rfl fl_X1_167 (hT.ks.l0 (by omega)) ?_
      refine x_vi (w := I 0 0 15) rfl ?_
      refine x_iconst (v := 1) 42 dX1_doBegin_41 rfl rfl ?_
      refine x_iadd 43 dX1_doBegin_42 rfl ?_
      refine x_nmi fun x2 hx2 => ?_
      refine x_dup_x1 44 dX1_doBegin_43 rfl rfl rfl ?_
      refine x_puti 47 dX1_doBegin_44 rfl fl_X1_167 rfl rfl (hT.ks.l0 (by omega)) ?_
      refine k_nmA (v := v) (kI_xu (c := 0) rfl) fun I1 hI1 => ?_
      refine x_callV (as := [.int x2]) (rest := []) (i := me) (n' := n - 1) 50 dX1_doBegin_47 rfl mv_X1_727 rfl rfl (hT.ks.l9 (by omega)) (xnh rfl) (by omega) (xst (Nat.le_of_ble_eq_true rfl)) (c_X10_beginGroup hT.ks (by omega) (fun c k j hc _ e => (hK.rf.k (u := v.u)).1 c _ k j hc e) (fun k j hk_ e => (hK.rf.k (u := v.u)).2.1 _ k j hk_ e) (by omega) ?_)
      change X _ _ _ _ _ _ _ _ _ _
      refine k_nmA (v := v) (A1 := (xu I1 9 me 9 x2)) (by (repeat (first | rw [kI_xu] | rw [kI_xur] | rw [kI_xfil])) <;> rfl) fun I2 hI2 => ?_
      refine k_nmC (v := v) (C1 := (pBegR R me)) kR_pBegR fun R1 hR1 => ?_
      unfold kBg1 at hq
      refine x_aload_n 51 dX1_doBegin_50 rfl rfl ?_
      refine x_gets 54 dX1_doBegin_51 rfl fl_X1_371 (hT.ks.l0 (by omega)) (show R1 0 0 19 = some me by rw [hR1]; unfold pBegR; rw [xu_c (by decide), xur_c (by decide)]; exact hme) ?_
      refine x_dup 55 dX1_doBegin_54 rfl rfl ?_
      refine x_geti 58 dX1_doBegin_55 rfl fl_X1_596 (hT.ks.l9 (by omega)) ?_
      refine x_vi (w := I2 9 me 8) rfl ?_
      refine x_iconst (v := 1) 59 dX1_doBegin_58 rfl rfl ?_
      refine x_iadd 60 dX1_doBegin_59 rfl ?_
      refine x_nmi fun x3 hx3 => ?_
      refine x_dup_x1 61 dX1_doBegin_60 rfl rfl rfl ?_
      refine x_puti 64 dX1_doBegin_61 rfl fl_X1_596 rfl rfl (hT.ks.l9 (by omega)) ?_
      refine k_nmA (v := v) (kI_xu (c := 9) rfl) fun I3 hI3 => ?_
      refine x_ireturn dX1_doBegin_64 rfl ?_
      have e2 : I2 = kBg0 I me := by rw [hI2, hI1, hx2]; rfl
      rw [hI3, hx3, e2, hR1]
      exact hq.ret hT
  · skip
    rw [if_pos c9] at hq
    refine x_aload_n 13 dX1_doBegin_12 rfl rfl ?_
    refine x_getz 16 dX1_doBegin_13 rfl fl_X1_53 (hT.ks.l0 (by omega)) (hT.ks.z0_10 (by omega)) ?_
    refine x_bipush (v := -11) 18 dX1_doBegin_16 rfl rfl ?_
    refine x_callV (as := [.int (-11)]) (rest := []) (i := 0) (n' := n - 1) 21 dX1_doBegin_18 rfl mv_X1_364 rfl rfl (hT.ks.l3 (by omega)) (xnh rfl) (by omega) (xst (Nat.le_of_ble_eq_true rfl)) (c_X4_by hT.ks (by omega) ?_)
    change X _ _ _ _ _ _ _ _ _ _
    refine k_nmA (v := v) (A1 := (xu I 3 0 0 ((-11)))) (by (repeat (first | rw [kI_xu] | rw [kI_xur] | rw [kI_xfil])) <;> rfl) fun I1 hI1 => ?_
    refine x_athrow dX1_doBegin_21 (xnh rfl) ?_
    rw [hI1]
    exact hq.thr (by decide) hT
