set_option maxRecDepth 100000
theorem kI_x2 {A t : xI} {i k : Nat} {w : Int32} : xu (kI A t) 2 i k w = kI A (xu t 2 i k w) := by
  funext c j q
  by_cases e : c = 2
  · subst e; rfl
  · rw [xu_c e]
    by_cases e2 : c = 31
    · subst e2; show t 31 j q = xu t 2 i k w 31 j q; exact (xu_c (by decide)).symm
    · rw [kI_of e e2, kI_of e e2]
theorem k_row2 {G : xG} {M : xM} {n a b : Nat} {Q : Outcome → xS → Prop} {x : kX} {v : kV} {A : xI} {C : xR} {pc : Nat} {L : List (Nat × Value)} {st : List Value} {w : Int32} (kk : ∀ v' : kV, v' = (xu v.t 2 0 0 w, v.J, v.u, v.lv, v.len, v.nc, v.ns) → X G M n a b Q (kS A C x v') pc L st) : X G M n a b Q (xu (kI A v.t) 2 0 0 w, v.J, kR C v.u, x.Z, kT x v) pc L st := by
  rw [kI_x2]; exact kk _ rfl
theorem KT.nil {x : kX} {v v' : kV} {th : List xTh} (hT : KT x v th) (hv : v' = (xu v.t 2 0 0 0, v.J, v.u, v.lv, v.len, v.nc, v.ns)) : KT x v' [] := by
  subst hv
  obtain ⟨g, cap, jk, jo, jf, js, jr, jw, ht, hmn, hle, hl, hg⟩ := hT.2.2.2.2.2
  exact ⟨hT.1, hT.2.1, hT.2.2.1, hT.2.2.2.1, hT.2.2.2.2.1, g, cap, jk, jo, jf, js, jr, jw, ht, by show xu v.t 2 0 0 0 2 0 0 = nI 0; rw [xu_eq]; exact nI_z, Nat.zero_le _, rfl, hg⟩
def kFgP (s : xI × xR) (p : Nat) : xI × xR := (pClrI s.1 p, pClrR s.2 p)
def kFgZ (A : xI) (p : Nat) : xI := xu A 8 p 1 0
def kFg2 (N : Nat) (s : kK) : xI × xR := itS kFgP (itA iClr s.1 N, s.2.1) 16
/-- all that is not on the disk is gone -/
def kForget (N : Nat) (s : kK) : kK := (xu (itA kFgZ (kFg2 N s).1 8) 9 0 1 1, xu (kFg2 N s).2 9 0 5 (some 0), [])
theorem dX1_forget_0 : decode cX1_forget 0 = .ok (.aload_n 0, 1) := by decide +kernel
theorem dX1_forget_1 : decode cX1_forget 1 = .ok (.getfield 115, 3) := by decide +kernel
theorem dX1_forget_4 : decode cX1_forget 4 = .ok (.astore_n 1, 1) := by decide +kernel
theorem dX1_forget_5 : decode cX1_forget 5 = .ok (.aload_n 1, 1) := by decide +kernel
theorem dX1_forget_6 : decode cX1_forget 6 = .ok (.arraylength, 1) := by decide +kernel
theorem dX1_forget_7 : decode cX1_forget 7 = .ok (.istore_n 2, 1) := by decide +kernel
theorem dX1_forget_8 : decode cX1_forget 8 = .ok (.iconst 0, 1) := by decide +kernel
theorem dX1_forget_9 : decode cX1_forget 9 = .ok (.istore_n 3, 1) := by decide +kernel
theorem dX1_forget_10 : decode cX1_forget 10 = .ok (.iload_n 3, 1) := by decide +kernel
theorem dX1_forget_11 : decode cX1_forget 11 = .ok (.iload_n 2, 1) := by decide +kernel
theorem dX1_forget_12 : decode cX1_forget 12 = .ok (.if_icmp .ge 19, 3) := by decide +kernel
theorem dX1_forget_15 : decode cX1_forget 15 = .ok (.aload_n 1, 1) := by decide +kernel
theorem dX1_forget_16 : decode cX1_forget 16 = .ok (.iload_n 3, 1) := by decide +kernel
theorem dX1_forget_17 : decode cX1_forget 17 = .ok (.aaload, 1) := by decide +kernel
theorem dX1_forget_18 : decode cX1_forget 18 = .ok (.astore 4, 2) := by decide +kernel
theorem dX1_forget_20 : decode cX1_forget 20 = .ok (.aload 4, 2) := by decide +kernel
theorem dX1_forget_22 : decode cX1_forget 22 = .ok (.invokevirtual 198, 3) := by decide +kernel
theorem dX1_forget_25 : decode cX1_forget 25 = .ok (.iinc 3 1, 3) := by decide +kernel
theorem dX1_forget_28 : decode cX1_forget 28 = .ok (.goto (-18), 3) := by decide +kernel
theorem dX1_forget_31 : decode cX1_forget 31 = .ok (.aload_n 0, 1) := by decide +kernel
theorem dX1_forget_32 : decode cX1_forget 32 = .ok (.getfield 39, 3) := by decide +kernel
theorem dX1_forget_35 : decode cX1_forget 35 = .ok (.astore_n 1, 1) := by decide +kernel
theorem dX1_forget_36 : decode cX1_forget 36 = .ok (.aload_n 1, 1) := by decide +kernel
theorem dX1_forget_37 : decode cX1_forget 37 = .ok (.arraylength, 1) := by decide +kernel
theorem dX1_forget_38 : decode cX1_forget 38 = .ok (.istore_n 2, 1) := by decide +kernel
theorem dX1_forget_39 : decode cX1_forget 39 = .ok (.iconst 0, 1) := by decide +kernel
theorem dX1_forget_40 : decode cX1_forget 40 = .ok (.istore_n 3, 1) := by decide +kernel
theorem dX1_forget_41 : decode cX1_forget 41 = .ok (.iload_n 3, 1) := by decide +kernel
theorem dX1_forget_42 : decode cX1_forget 42 = .ok (.iload_n 2, 1) := by decide +kernel
theorem dX1_forget_43 : decode cX1_forget 43 = .ok (.if_icmp .ge 19, 3) := by decide +kernel
theorem dX1_forget_46 : decode cX1_forget 46 = .ok (.aload_n 1, 1) := by decide +kernel
theorem dX1_forget_47 : decode cX1_forget 47 = .ok (.iload_n 3, 1) := by decide +kernel
theorem dX1_forget_48 : decode cX1_forget 48 = .ok (.aaload, 1) := by decide +kernel
theorem dX1_forget_49 : decode cX1_forget 49 = .ok (.astore 4, 2) := by decide +kernel
theorem dX1_forget_51 : decode cX1_forget 51 = .ok (.aload 4, 2) := by decide +kernel
theorem dX1_forget_53 : decode cX1_forget 53 = .ok (.invokevirtual 201, 3) := by decide +kernel
theorem dX1_forget_56 : decode cX1_forget 56 = .ok (.iinc 3 1, 3) := by decide +kernel
theorem dX1_forget_59 : decode cX1_forget 59 = .ok (.goto (-18), 3) := by decide +kernel
theorem dX1_forget_62 : decode cX1_forget 62 = .ok (.aload_n 0, 1) := by decide +kernel
theorem dX1_forget_63 : decode cX1_forget 63 = .ok (.getfield 33, 3) := by decide +kernel
theorem dX1_forget_66 : decode cX1_forget 66 = .ok (.astore_n 1, 1) := by decide +kernel
theorem dX1_forget_67 : decode cX1_forget 67 = .ok (.aload_n 1, 1) := by decide +kernel
theorem dX1_forget_68 : decode cX1_forget 68 = .ok (.arraylength, 1) := by decide +kernel
theorem dX1_forget_69 : decode cX1_forget 69 = .ok (.istore_n 2, 1) := by decide +kernel
theorem dX1_forget_70 : decode cX1_forget 70 = .ok (.iconst 0, 1) := by decide +kernel
theorem dX1_forget_71 : decode cX1_forget 71 = .ok (.istore_n 3, 1) := by decide +kernel
theorem dX1_forget_72 : decode cX1_forget 72 = .ok (.iload_n 3, 1) := by decide +kernel
theorem dX1_forget_73 : decode cX1_forget 73 = .ok (.iload_n 2, 1) := by decide +kernel
theorem dX1_forget_74 : decode cX1_forget 74 = .ok (.if_icmp .ge 20, 3) := by decide +kernel
theorem dX1_forget_77 : decode cX1_forget 77 = .ok (.aload_n 1, 1) := by decide +kernel
theorem dX1_forget_78 : decode cX1_forget 78 = .ok (.iload_n 3, 1) := by decide +kernel
theorem dX1_forget_79 : decode cX1_forget 79 = .ok (.aaload, 1) := by decide +kernel
theorem dX1_forget_80 : decode cX1_forget 80 = .ok (.astore 4, 2) := by decide +kernel
theorem dX1_forget_82 : decode cX1_forget 82 = .ok (.aload 4, 2) := by decide +kernel
theorem dX1_forget_84 : decode cX1_forget 84 = .ok (.iconst 0, 1) := by decide +kernel
theorem dX1_forget_85 : decode cX1_forget 85 = .ok (.putfield 202, 3) := by decide +kernel
theorem dX1_forget_88 : decode cX1_forget 88 = .ok (.iinc 3 1, 3) := by decide +kernel
theorem dX1_forget_91 : decode cX1_forget 91 = .ok (.goto (-19), 3) := by decide +kernel
theorem dX1_forget_94 : decode cX1_forget 94 = .ok (.aload_n 0, 1) := by decide +kernel
theorem dX1_forget_95 : decode cX1_forget 95 = .ok (.getfield 46, 3) := by decide +kernel
theorem dX1_forget_98 : decode cX1_forget 98 = .ok (.iconst 0, 1) := by decide +kernel
theorem dX1_forget_99 : decode cX1_forget 99 = .ok (.putfield 205, 3) := by decide +kernel
theorem dX1_forget_102 : decode cX1_forget 102 = .ok (.aload_n 0, 1) := by decide +kernel
theorem dX1_forget_103 : decode cX1_forget 103 = .ok (.getfield 39, 3) := by decide +kernel
theorem dX1_forget_106 : decode cX1_forget 106 = .ok (.iconst 0, 1) := by decide +kernel
theorem dX1_forget_107 : decode cX1_forget 107 = .ok (.aaload, 1) := by decide +kernel
theorem dX1_forget_108 : decode cX1_forget 108 = .ok (.iconst 1, 1) := by decide +kernel
theorem dX1_forget_109 : decode cX1_forget 109 = .ok (.putfield 208, 3) := by decide +kernel
theorem dX1_forget_112 : decode cX1_forget 112 = .ok (.aload_n 0, 1) := by decide +kernel
theorem dX1_forget_113 : decode cX1_forget 113 = .ok (.getfield 39, 3) := by decide +kernel
theorem dX1_forget_116 : decode cX1_forget 116 = .ok (.iconst 0, 1) := by decide +kernel
theorem dX1_forget_117 : decode cX1_forget 117 = .ok (.aaload, 1) := by decide +kernel
theorem dX1_forget_118 : decode cX1_forget 118 = .ok (.aload_n 0, 1) := by decide +kernel
theorem dX1_forget_119 : decode cX1_forget 119 = .ok (.getfield 115, 3) := by decide +kernel
theorem dX1_forget_122 : decode cX1_forget 122 = .ok (.iconst 0, 1) := by decide +kernel
theorem dX1_forget_123 : decode cX1_forget 123 = .ok (.aaload, 1) := by decide +kernel
theorem dX1_forget_124 : decode cX1_forget 124 = .ok (.putfield 194, 3) := by decide +kernel
theorem dX1_forget_127 : decode cX1_forget 127 = .ok (.return_, 1) := by decide +kernel
set_option maxHeartbeats 400000 in
set_option maxRecDepth 100000 in
theorem l1_X1_forget {G : xG} {n a b : Nat} {Q : Outcome → xS → Prop} {x : kX} {I0 : xI} {R : xR} {v : kV} {th : List xTh} (hT : KT x v th) (hx : X G mX1_forget n a b Q (kS (itA iClr I0 x.N) (R) x v) 31 [(1, .ref (x.ad 0 0)), xo, xo, xo, xo] []) (k : Nat) (I : xI) (hn : 2 ≤ n) :
    (k ≤ x.N) → (I = itA iClr I0 k) → X G mX1_forget n a b Q (kS I R x v) 10 [(1, .ref (x.ad 0 0)), (1, .ref (x.ad 23 0)), (1, .int (nI x.N)), (1, .int (nI k)), xo] [] := by
  induction hm : x.N - k using Nat.strongRecOn generalizing k I with
  | _ m_ ih =>
    intro h8 hI
    have hnb := hT.ks.nb
    refine x_iload_n 11 dX1_forget_10 rfl rfl ?_
    refine x_iload_n 12 dX1_forget_11 rfl rfl ?_
    refine x_icmp_ge 31 15 dX1_forget_12 (by decide) rfl (fun c12 => ?_) (fun c12 => ?_)
    · skip
      have c12 : x.N ≤ k := (nI_leI (a := x.N) (b := k) (by omega) (by omega)).mp c12
      refine x_fgt [(1, .ref (x.ad 0 0)), xo, xo, xo, xo] ⟨Or.inr rfl, Or.inl rfl, Or.inl rfl, Or.inl rfl, Or.inl rfl, trivial⟩ ?_
      have e : k = x.N := by omega
      rw [hI, e]; exact hx
    · skip
      have c12 : ¬ (x.N ≤ k) := fun h => c12 ((nI_leI (a := x.N) (b := k) (by omega) (by omega)).mpr h)
      refine x_aload_n 16 dX1_forget_15 rfl rfl ?_
      refine x_iload_n 17 dX1_forget_16 rfl rfl ?_
      refine x_aldz 18 dX1_forget_17 rfl ar_23 rfl (hT.ks.l23 (by omega)) (xb (hT.ks.n23 (by omega)) (by omega) (by omega)) (hT.ks.z23 (by omega)) ?_
      refine x_astore 20 [(1, .ref (x.ad 0 0)), (1, .ref (x.ad 23 0)), (1, .int (nI x.N)), (1, .int (nI k)), (1, .ref (x.ad 6 k))] dX1_forget_18 rfl (by decide) rfl ?_
      refine x_aload 22 dX1_forget_20 rfl rfl ?_
      refine x_callV (as := []) (rest := []) (i := k) (n' := n - 1) 25 dX1_forget_22 rfl mv_X1_198 rfl rfl (hT.ks.l6 (by omega)) (xnh rfl) (by omega) (xst (Nat.le_of_ble_eq_true rfl)) (c_X7_clear hT.ks (by omega) (by omega) ?_)
      change X _ _ _ _ _ _ _ _ _ _
      refine k_nmA (v := v) (A1 := (iClr I k)) kI_iClr fun I1 hI1 => ?_
      refine x_iinc 28 [(1, .ref (x.ad 0 0)), (1, .ref (x.ad 23 0)), (1, .int (nI x.N)), (1, .int (nI (k + 1))), (1, .ref (x.ad 6 k))] dX1_forget_25 rfl (by decide) rfl (xi_1 k) rfl ?_
      refine x_goto 10 dX1_forget_28 (by decide) ?_
      refine x_fgt [(1, .ref (x.ad 0 0)), (1, .ref (x.ad 23 0)), (1, .int (nI x.N)), (1, .int (nI (k + 1))), xo] ⟨Or.inr rfl, Or.inr rfl, Or.inr rfl, Or.inr rfl, Or.inl rfl, trivial⟩ ?_
      exact ih _ (by rw [← hm]; omega) (k + 1) I1 rfl (by omega) (by rw [hI1, hI]; rfl)
set_option maxHeartbeats 400000 in
set_option maxRecDepth 100000 in
theorem l2_X1_forget {G : xG} {n a b : Nat} {Q : Outcome → xS → Prop} {x : kX} {s : xI × xR} {v : kV} {th : List xTh} (hT : KT x v th) (hx : X G mX1_forget n a b Q (kS ((itS kFgP s 16).1) ((itS kFgP s 16).2) x v) 62 [(1, .ref (x.ad 0 0)), xo, xo, xo, xo] []) (k : Nat) (I : xI) (R : xR) (hn : 3 ≤ n) :
    (k ≤ 16) → ((I, R) = itS kFgP s k) → X G mX1_forget n a b Q (kS I R x v) 41 [(1, .ref (x.ad 0 0)), (1, .ref (x.ad 26 0)), (1, .int (nI 16)), (1, .int (nI k)), xo] [] := by
  induction hm : 16 - k using Nat.strongRecOn generalizing k I R with
  | _ m_ ih =>
    intro h8 hI
    have hnb := hT.ks.nb
    refine x_iload_n 42 dX1_forget_41 rfl rfl ?_
    refine x_iload_n 43 dX1_forget_42 rfl rfl ?_
    refine x_icmp_ge 62 46 dX1_forget_43 (by decide) rfl (fun c43 => ?_) (fun c43 => ?_)
    · skip
      have c43 : 16 ≤ k := (nI_leI (a := 16) (b := k) (by omega) (by omega)).mp c43
      refine x_fgt [(1, .ref (x.ad 0 0)), xo, xo, xo, xo] ⟨Or.inr rfl, Or.inl rfl, Or.inl rfl, Or.inl rfl, Or.inl rfl, trivial⟩ ?_
      have e : k = 16 := by omega
      rw [← e, ← hI] at hx; exact hx
    · skip
      have c43 : ¬ (16 ≤ k) := fun h => c43 ((nI_leI (a := 16) (b := k) (by omega) (by omega)).mpr h)
      refine x_aload_n 47 dX1_forget_46 rfl rfl ?_
      refine x_iload_n 48 dX1_forget_47 rfl rfl ?_
      refine x_aldz 49 dX1_forget_48 rfl ar_26 rfl (hT.ks.l26 (by omega)) (xb (hT.ks.n26 (by omega)) (by omega) (by omega)) (hT.ks.z26 (by omega)) ?_
      refine x_astore 51 [(1, .ref (x.ad 0 0)), (1, .ref (x.ad 26 0)), (1, .int (nI 16)), (1, .int (nI k)), (1, .ref (x.ad 9 k))] dX1_forget_49 rfl (by decide) rfl ?_
      refine x_aload 53 dX1_forget_51 rfl rfl ?_
      refine x_callV (as := []) (rest := []) (i := k) (n' := n - 1) 56 dX1_forget_53 rfl mv_X1_201 rfl rfl (hT.ks.l9 (by omega)) (xnh rfl) (by omega) (xst (Nat.le_of_ble_eq_true rfl)) (c_X10_clear hT.ks (by omega) (by omega) ?_)
      change X _ _ _ _ _ _ _ _ _ _
      refine k_nmA (v := v) (A1 := (pClrI I k)) kI_pClrI fun I1 hI1 => ?_
      refine k_nmC (v := v) (C1 := (pClrR R k)) kR_pClrR fun R1 hR1 => ?_
      refine x_iinc 59 [(1, .ref (x.ad 0 0)), (1, .ref (x.ad 26 0)), (1, .int (nI 16)), (1, .int (nI (k + 1))), (1, .ref (x.ad 9 k))] dX1_forget_56 rfl (by decide) rfl (xi_1 k) rfl ?_
      refine x_goto 41 dX1_forget_59 (by decide) ?_
      refine x_fgt [(1, .ref (x.ad 0 0)), (1, .ref (x.ad 26 0)), (1, .int (nI 16)), (1, .int (nI (k + 1))), xo] ⟨Or.inr rfl, Or.inr rfl, Or.inr rfl, Or.inr rfl, Or.inl rfl, trivial⟩ ?_
      exact ih _ (by rw [← hm]; omega) (k + 1) I1 R1 rfl (by omega) (by show _ = kFgP (itS kFgP s k) k; rw [← hI, hI1, hR1]; rfl)
set_option maxHeartbeats 400000 in
set_option maxRecDepth 100000 in
theorem l3_X1_forget {G : xG} {n a b : Nat} {Q : Outcome → xS → Prop} {x : kX} {I0 : xI} {R : xR} {v : kV} {th : List xTh} (hT : KT x v th) (hx : X G mX1_forget n a b Q (kS (itA kFgZ I0 8) (R) x v) 94 [(1, .ref (x.ad 0 0)), xo, xo, xo, xo] []) (k : Nat) (I : xI) (hn : 1 ≤ n) :
    (k ≤ 8) → (I = itA kFgZ I0 k) → X G mX1_forget n a b Q (kS I R x v) 72 [(1, .ref (x.ad 0 0)), (1, .ref (x.ad 25 0)), (1, .int (nI 8)), (1, .int (nI k)), xo] [] := by
  induction hm : 8 - k using Nat.strongRecOn generalizing k I with
  | _ m_ ih =>
    intro h8 hI
    have hnb := hT.ks.nb
    refine x_iload_n 73 dX1_forget_72 rfl rfl ?_
    refine x_iload_n 74 dX1_forget_73 rfl rfl ?_
    refine x_icmp_ge 94 77 dX1_forget_74 (by decide) rfl (fun c74 => ?_) (fun c74 => ?_)
    · skip
      have c74 : 8 ≤ k := (nI_leI (a := 8) (b := k) (by omega) (by omega)).mp c74
      refine x_fgt [(1, .ref (x.ad 0 0)), xo, xo, xo, xo] ⟨Or.inr rfl, Or.inl rfl, Or.inl rfl, Or.inl rfl, Or.inl rfl, trivial⟩ ?_
      have e : k = 8 := by omega
      rw [hI, e]; exact hx
    · skip
      have c74 : ¬ (8 ≤ k) := fun h => c74 ((nI_leI (a := 8) (b := k) (by omega) (by omega)).mpr h)
      refine x_aload_n 78 dX1_forget_77 rfl rfl ?_
      refine x_iload_n 79 dX1_forget_78 rfl rfl ?_
      refine x_aldz 80 dX1_forget_79 rfl ar_25 rfl (hT.ks.l25 (by omega)) (xb (hT.ks.n25 (by omega)) (by omega) (by omega)) (hT.ks.z25 (by omega)) ?_
      refine x_astore 82 [(1, .ref (x.ad 0 0)), (1, .ref (x.ad 25 0)), (1, .int (nI 8)), (1, .int (nI k)), (1, .ref (x.ad 8 k))] dX1_forget_80 rfl (by decide) rfl ?_
      refine x_aload 84 dX1_forget_82 rfl rfl ?_
      refine x_iconst (v := 0) 85 dX1_forget_84 rfl rfl ?_
      refine x_puti 88 dX1_forget_85 rfl fl_X1_202 rfl rfl (hT.ks.l8 (by omega)) ?_
      refine k_nmA (v := v) (kI_xu (c := 8) rfl) fun I1 hI1 => ?_
      refine x_iinc 91 [(1, .ref (x.ad 0 0)), (1, .ref (x.ad 25 0)), (1, .int (nI 8)), (1, .int (nI (k + 1))), (1, .ref (x.ad 8 k))] dX1_forget_88 rfl (by decide) rfl (xi_1 k) rfl ?_
      refine x_goto 72 dX1_forget_91 (by decide) ?_
      refine x_fgt [(1, .ref (x.ad 0 0)), (1, .ref (x.ad 25 0)), (1, .int (nI 8)), (1, .int (nI (k + 1))), xo] ⟨Or.inr rfl, Or.inr rfl, Or.inr rfl, Or.inr rfl, Or.inl rfl, trivial⟩ ?_
      exact ih _ (by rw [← hm]; omega) (k + 1) I1 rfl (by omega) (by rw [hI1, hI]; rfl)
set_option maxHeartbeats 400000 in
set_option maxRecDepth 100000 in
theorem c_X1_forget {G : xG} {n : Nat} {Q : Outcome → xS → Prop} {x : kX} {I : xI} {R : xR} {v : kV} {th : List xTh} (hT : KT x v th) (hn : 3 ≤ n) (hq : ∀ v' : kV, KT x v' [] → Q (.returned none) (kS (kForget x.N (I, R, th)).1 (kForget x.N (I, R, th)).2.1 x v')) : xCall G mX1_forget n [.ref (x.ad 0 0)] (kS I R x v) Q := by
  refine x_met (L0 := [(1, .ref (x.ad 0 0)), xo, xo, xo, xo]) (by decide +kernel) rfl ⟨Nat.le_of_ble_eq_true rfl, rfl⟩ ?_
  have hnb := hT.ks.nb
  refine x_aload_n 1 dX1_forget_0 rfl rfl ?_
  refine x_getz 4 dX1_forget_1 rfl fl_X1_115 (hT.ks.l0 (by omega)) (hT.ks.z0_5 (by omega)) ?_
  refine x_astore_n 5 [(1, .ref (x.ad 0 0)), (1, .ref (x.ad 23 0)), xo, xo, xo] dX1_forget_4 rfl (by decide) rfl ?_
  refine x_aload_n 6 dX1_forget_5 rfl rfl ?_
  refine x_alen 7 dX1_forget_6 rfl ar_23 (hT.ks.l23 (by omega)) ?_
  refine x_vi (congrArg nI (hT.ks.n23 (by omega))) ?_
  refine x_istore_n 8 [(1, .ref (x.ad 0 0)), (1, .ref (x.ad 23 0)), (1, .int (nI x.N)), xo, xo] dX1_forget_7 rfl (by decide) rfl ?_
  refine x_iconst (v := 0) 9 dX1_forget_8 rfl rfl ?_
  refine x_istore_n 10 [(1, .ref (x.ad 0 0)), (1, .ref (x.ad 23 0)), (1, .int (nI x.N)), (1, .int 0), xo] dX1_forget_9 rfl (by decide) rfl ?_
  refine l1_X1_forget (I0 := I) hT ?_ 0 I (by omega) (by omega) rfl
  refine x_aload_n 32 dX1_forget_31 rfl rfl ?_
  refine x_getz 35 dX1_forget_32 rfl fl_X1_39 (hT.ks.l0 (by omega)) (hT.ks.z0_8 (by omega)) ?_
  refine x_astore_n 36 [(1, .ref (x.ad 0 0)), (1, .ref (x.ad 26 0)), xo, xo, xo] dX1_forget_35 rfl (by decide) rfl ?_
  refine x_aload_n 37 dX1_forget_36 rfl rfl ?_
  refine x_alen 38 dX1_forget_37 rfl ar_26 (hT.ks.l26 (by omega)) ?_
  refine x_vi (congrArg nI (hT.ks.n26 (by omega))) ?_
  refine x_istore_n 39 [(1, .ref (x.ad 0 0)), (1, .ref (x.ad 26 0)), (1, .int (nI 16)), xo, xo] dX1_forget_38 rfl (by decide) rfl ?_
  refine x_iconst (v := 0) 40 dX1_forget_39 rfl rfl ?_
  refine x_istore_n 41 [(1, .ref (x.ad 0 0)), (1, .ref (x.ad 26 0)), (1, .int (nI 16)), (1, .int 0), xo] dX1_forget_40 rfl (by decide) rfl ?_
  refine l2_X1_forget (s := (itA iClr I x.N, R)) hT ?_ 0 _ R (by omega) (by omega) rfl
  obtain ⟨f_, hf_⟩ : ∃ f : xI × xR, f = itS kFgP (itA iClr I x.N, R) 16 := ⟨_, rfl⟩
  rw [← hf_]
  refine x_aload_n 63 dX1_forget_62 rfl rfl ?_
  refine x_getz 66 dX1_forget_63 rfl fl_X1_33 (hT.ks.l0 (by omega)) (hT.ks.z0_7 (by omega)) ?_
  refine x_astore_n 67 [(1, .ref (x.ad 0 0)), (1, .ref (x.ad 25 0)), xo, xo, xo] dX1_forget_66 rfl (by decide) rfl ?_
  refine x_aload_n 68 dX1_forget_67 rfl rfl ?_
  refine x_alen 69 dX1_forget_68 rfl ar_25 (hT.ks.l25 (by omega)) ?_
  refine x_vi (congrArg nI (hT.ks.n25 (by omega))) ?_
  refine x_istore_n 70 [(1, .ref (x.ad 0 0)), (1, .ref (x.ad 25 0)), (1, .int (nI 8)), xo, xo] dX1_forget_69 rfl (by decide) rfl ?_
  refine x_iconst (v := 0) 71 dX1_forget_70 rfl rfl ?_
  refine x_istore_n 72 [(1, .ref (x.ad 0 0)), (1, .ref (x.ad 25 0)), (1, .int (nI 8)), (1, .int 0), xo] dX1_forget_71 rfl (by decide) rfl ?_
  refine l3_X1_forget (I0 := f_.1) hT ?_ 0 _ (by omega) (by omega) rfl
  obtain ⟨z_, hz_⟩ : ∃ z : xI, z = itA kFgZ f_.1 8 := ⟨_, rfl⟩
  rw [← hz_]
  refine x_aload_n 95 dX1_forget_94 rfl rfl ?_
  refine x_getz 98 dX1_forget_95 rfl fl_X1_46 (hT.ks.l0 (by omega)) (hT.ks.z0_9 (by omega)) ?_
  refine x_iconst (v := 0) 99 dX1_forget_98 rfl rfl ?_
  refine x_puti 102 dX1_forget_99 rfl fl_X1_205 rfl rfl (hT.ks.l2 (by omega)) ?_
  refine k_row2 fun v9 hv9 => ?_
  have hT9 := hT.nil hv9
  refine x_aload_n 103 dX1_forget_102 rfl rfl ?_
  refine x_getz 106 dX1_forget_103 rfl fl_X1_39 (hT9.ks.l0 (by omega)) (hT9.ks.z0_8 (by omega)) ?_
  refine x_iconst (v := 0) 107 dX1_forget_106 rfl rfl ?_
  refine x_vi (w := nI 0) rfl ?_
  refine x_aldz 108 dX1_forget_107 rfl ar_26 rfl (hT9.ks.l26 (by omega)) (xb (hT9.ks.n26 (by omega)) (by omega) (by omega)) (hT9.ks.z26 (by omega)) ?_
  refine x_iconst (v := 1) 109 dX1_forget_108 rfl rfl ?_
  refine x_puti 112 dX1_forget_109 rfl fl_X1_208 rfl rfl (hT9.ks.l9 (by omega)) ?_
  refine k_nmA (v := v9) (kI_xu (c := 9) rfl) fun I1 hI1 => ?_
  refine x_aload_n 113 dX1_forget_112 rfl rfl ?_
  refine x_getz 116 dX1_forget_113 rfl fl_X1_39 (hT9.ks.l0 (by omega)) (hT9.ks.z0_8 (by omega)) ?_
  refine x_iconst (v := 0) 117 dX1_forget_116 rfl rfl ?_
  refine x_vi (w := nI 0) rfl ?_
  refine x_aldz 118 dX1_forget_117 rfl ar_26 rfl (hT9.ks.l26 (by omega)) (xb (hT9.ks.n26 (by omega)) (by omega) (by omega)) (hT9.ks.z26 (by omega)) ?_
  refine x_aload_n 119 dX1_forget_118 rfl rfl ?_
  refine x_getz 122 dX1_forget_119 rfl fl_X1_115 (hT9.ks.l0 (by omega)) (hT9.ks.z0_5 (by omega)) ?_
  refine x_iconst (v := 0) 123 dX1_forget_122 rfl rfl ?_
  refine x_vi (w := nI 0) rfl ?_
  refine x_aldz 124 dX1_forget_123 rfl ar_23 rfl (hT9.ks.l23 (by omega)) (xb (hT9.ks.n23 (by omega)) (by omega) (by omega)) (hT9.ks.z23 (by omega)) ?_
  refine x_asR ?_
  refine x_putr 127 dX1_forget_124 rfl fl_X1_194 (Or.inl ⟨_, rfl⟩) (hT9.ks.l9 (by omega)) (fun _ h => by cases h; exact (hT9.ks.l6 (by omega))) ?_
  refine k_nmC (v := v9) (kR_xu (c := 9) rfl) fun R1 hR1 => ?_
  refine x_vreturn dX1_forget_127 rfl ?_
  have e2 : kFg2 x.N (I, R, th) = f_ := hf_.symm
  unfold kForget at hq; rw [e2, ← hz_] at hq
  rw [hI1, hR1]
  exact hq v9 hT9
