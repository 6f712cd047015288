set_option maxRecDepth 100000
/-! sweep -/
noncomputable def cif {α : Type} (p : Prop) (a b : α) : α := @ite _ p (Classical.propDecidable p) a b
theorem cif_t {α : Type} {p : Prop} {a b : α} (h : p) : cif p a b = a := by unfold cif; rw [if_pos h]
theorem cif_f {α : Type} {p : Prop} {a b : α} (h : ¬ p) : cif p a b = b := by unfold cif; rw [if_neg h]
def itL (f : List xTh → Nat → List xTh) (l : List xTh) : Nat → List xTh
  | 0 => l
  | k + 1 => f (itL f l k) k
theorem kRef.k {C u : xR} {N : Nat} (h : kRef C N) : kRef (kR C u) N := by
  refine ⟨fun c p k o hc e => ?_, fun p k i hk e => h.2.1 p k i hk e, fun o i e => h.2.2.1 o i e, fun k o e => h.2.2.2 k o e⟩
  rcases hc with rfl | rfl
  · exact h.1 46 p k o (Or.inl rfl) e
  · exact h.1 47 p k o (Or.inr rfl) e
def kLoose (A : xI) (i : Nat) : Prop := ¬ A 6 i 1 ≤ 0 ∧ A 6 i 2 = 0 ∧ A 6 i 14 = 0 ∧ A 6 i 10 = -1 ∧ A 6 i 11 = -1
noncomputable def kSw1 (C : xR) (A : xI) (i : Nat) : xI := cif (kLoose A i ∧ ¬ kUsed A C i) (iClr A i) A
noncomputable def kSwO (A : xI) (C : xR) (th : List xTh) (k : Nat) : List xTh := cif (kThere A C k) th (th.map (thDrop 5 (nI k)))
noncomputable def kSwP (A : xI) (C : xR) (th : List xTh) (k : Nat) : List xTh := cif (kHasPipe A C (nI k)) th (th.map (thDrop 6 (nI k)))
noncomputable def kSwA (N : Nat) (A : xI) (C : xR) : xI := itA (kSw1 C) A N
noncomputable def kSwT (A : xI) (C : xR) (th : List xTh) : List xTh := (itL (kSwP A C) (itL (kSwO A C) th 384) 8).filter thKeep
theorem dX1_sweep_0 : decode cX1_sweep 0 = .ok (.aload_n 0, 1) := by decide +kernel
theorem dX1_sweep_1 : decode cX1_sweep 1 = .ok (.getfield 115, 3) := by decide +kernel
theorem dX1_sweep_4 : decode cX1_sweep 4 = .ok (.astore_n 1, 1) := by decide +kernel
theorem dX1_sweep_5 : decode cX1_sweep 5 = .ok (.aload_n 1, 1) := by decide +kernel
theorem dX1_sweep_6 : decode cX1_sweep 6 = .ok (.arraylength, 1) := by decide +kernel
theorem dX1_sweep_7 : decode cX1_sweep 7 = .ok (.istore_n 2, 1) := by decide +kernel
theorem dX1_sweep_8 : decode cX1_sweep 8 = .ok (.iconst 0, 1) := by decide +kernel
theorem dX1_sweep_9 : decode cX1_sweep 9 = .ok (.istore_n 3, 1) := by decide +kernel
theorem dX1_sweep_10 : decode cX1_sweep 10 = .ok (.iload_n 3, 1) := by decide +kernel
theorem dX1_sweep_11 : decode cX1_sweep 11 = .ok (.iload_n 2, 1) := by decide +kernel
theorem dX1_sweep_12 : decode cX1_sweep 12 = .ok (.if_icmp .ge 82, 3) := by decide +kernel
theorem dX1_sweep_15 : decode cX1_sweep 15 = .ok (.aload_n 1, 1) := by decide +kernel
theorem dX1_sweep_16 : decode cX1_sweep 16 = .ok (.iload_n 3, 1) := by decide +kernel
theorem dX1_sweep_17 : decode cX1_sweep 17 = .ok (.aaload, 1) := by decide +kernel
theorem dX1_sweep_18 : decode cX1_sweep 18 = .ok (.astore 4, 2) := by decide +kernel
theorem dX1_sweep_20 : decode cX1_sweep 20 = .ok (.aload 4, 2) := by decide +kernel
theorem dX1_sweep_22 : decode cX1_sweep 22 = .ok (.getfield 182, 3) := by decide +kernel
theorem dX1_sweep_25 : decode cX1_sweep 25 = .ok (.ifCond .le 41, 3) := by decide +kernel
theorem dX1_sweep_28 : decode cX1_sweep 28 = .ok (.aload 4, 2) := by decide +kernel
theorem dX1_sweep_30 : decode cX1_sweep 30 = .ok (.getfield 185, 3) := by decide +kernel
theorem dX1_sweep_33 : decode cX1_sweep 33 = .ok (.ifCond .ne 33, 3) := by decide +kernel
theorem dX1_sweep_36 : decode cX1_sweep 36 = .ok (.aload 4, 2) := by decide +kernel
theorem dX1_sweep_38 : decode cX1_sweep 38 = .ok (.getfield 191, 3) := by decide +kernel
theorem dX1_sweep_41 : decode cX1_sweep 41 = .ok (.ifCond .ne 25, 3) := by decide +kernel
theorem dX1_sweep_44 : decode cX1_sweep 44 = .ok (.aload 4, 2) := by decide +kernel
theorem dX1_sweep_46 : decode cX1_sweep 46 = .ok (.getfield 258, 3) := by decide +kernel
theorem dX1_sweep_49 : decode cX1_sweep 49 = .ok (.iconst (-1), 1) := by decide +kernel
theorem dX1_sweep_50 : decode cX1_sweep 50 = .ok (.if_icmp .ne 16, 3) := by decide +kernel
theorem dX1_sweep_53 : decode cX1_sweep 53 = .ok (.aload 4, 2) := by decide +kernel
theorem dX1_sweep_55 : decode cX1_sweep 55 = .ok (.getfield 261, 3) := by decide +kernel
theorem dX1_sweep_58 : decode cX1_sweep 58 = .ok (.iconst (-1), 1) := by decide +kernel
theorem dX1_sweep_59 : decode cX1_sweep 59 = .ok (.if_icmp .ne 7, 3) := by decide +kernel
theorem dX1_sweep_62 : decode cX1_sweep 62 = .ok (.iconst 1, 1) := by decide +kernel
theorem dX1_sweep_63 : decode cX1_sweep 63 = .ok (.goto 4, 3) := by decide +kernel
theorem dX1_sweep_66 : decode cX1_sweep 66 = .ok (.iconst 0, 1) := by decide +kernel
theorem dX1_sweep_67 : decode cX1_sweep 67 = .ok (.istore 5, 2) := by decide +kernel
theorem dX1_sweep_69 : decode cX1_sweep 69 = .ok (.iload 5, 2) := by decide +kernel
theorem dX1_sweep_71 : decode cX1_sweep 71 = .ok (.ifCond .eq 17, 3) := by decide +kernel
theorem dX1_sweep_74 : decode cX1_sweep 74 = .ok (.aload_n 0, 1) := by decide +kernel
theorem dX1_sweep_75 : decode cX1_sweep 75 = .ok (.aload 4, 2) := by decide +kernel
theorem dX1_sweep_77 : decode cX1_sweep 77 = .ok (.invokevirtual 264, 3) := by decide +kernel
theorem dX1_sweep_80 : decode cX1_sweep 80 = .ok (.ifCond .ne 8, 3) := by decide +kernel
theorem dX1_sweep_83 : decode cX1_sweep 83 = .ok (.aload 4, 2) := by decide +kernel
theorem dX1_sweep_85 : decode cX1_sweep 85 = .ok (.invokevirtual 198, 3) := by decide +kernel
theorem dX1_sweep_88 : decode cX1_sweep 88 = .ok (.iinc 3 1, 3) := by decide +kernel
theorem dX1_sweep_91 : decode cX1_sweep 91 = .ok (.goto (-81), 3) := by decide +kernel
theorem dX1_sweep_94 : decode cX1_sweep 94 = .ok (.iconst 0, 1) := by decide +kernel
theorem dX1_sweep_95 : decode cX1_sweep 95 = .ok (.istore_n 1, 1) := by decide +kernel
theorem dX1_sweep_96 : decode cX1_sweep 96 = .ok (.iload_n 1, 1) := by decide +kernel
theorem dX1_sweep_97 : decode cX1_sweep 97 = .ok (.aload_n 0, 1) := by decide +kernel
theorem dX1_sweep_98 : decode cX1_sweep 98 = .ok (.getfield 27, 3) := by decide +kernel
theorem dX1_sweep_101 : decode cX1_sweep 101 = .ok (.arraylength, 1) := by decide +kernel
theorem dX1_sweep_102 : decode cX1_sweep 102 = .ok (.if_icmp .ge 31, 3) := by decide +kernel
theorem dX1_sweep_105 : decode cX1_sweep 105 = .ok (.aload_n 0, 1) := by decide +kernel
theorem dX1_sweep_106 : decode cX1_sweep 106 = .ok (.aload_n 0, 1) := by decide +kernel
theorem dX1_sweep_107 : decode cX1_sweep 107 = .ok (.getfield 27, 3) := by decide +kernel
theorem dX1_sweep_110 : decode cX1_sweep 110 = .ok (.iload_n 1, 1) := by decide +kernel
theorem dX1_sweep_111 : decode cX1_sweep 111 = .ok (.aaload, 1) := by decide +kernel
theorem dX1_sweep_112 : decode cX1_sweep 112 = .ok (.invokevirtual 243, 3) := by decide +kernel
theorem dX1_sweep_115 : decode cX1_sweep 115 = .ok (.ifCond .ne 12, 3) := by decide +kernel
theorem dX1_sweep_118 : decode cX1_sweep 118 = .ok (.aload_n 0, 1) := by decide +kernel
theorem dX1_sweep_119 : decode cX1_sweep 119 = .ok (.getfield 46, 3) := by decide +kernel
theorem dX1_sweep_122 : decode cX1_sweep 122 = .ok (.iconst 5, 1) := by decide +kernel
theorem dX1_sweep_123 : decode cX1_sweep 123 = .ok (.iload_n 1, 1) := by decide +kernel
theorem dX1_sweep_124 : decode cX1_sweep 124 = .ok (.invokevirtual 268, 3) := by decide +kernel
theorem dX1_sweep_127 : decode cX1_sweep 127 = .ok (.iinc 1 1, 3) := by decide +kernel
theorem dX1_sweep_130 : decode cX1_sweep 130 = .ok (.goto (-34), 3) := by decide +kernel
theorem dX1_sweep_133 : decode cX1_sweep 133 = .ok (.iconst 0, 1) := by decide +kernel
theorem dX1_sweep_134 : decode cX1_sweep 134 = .ok (.istore_n 1, 1) := by decide +kernel
theorem dX1_sweep_135 : decode cX1_sweep 135 = .ok (.iload_n 1, 1) := by decide +kernel
theorem dX1_sweep_136 : decode cX1_sweep 136 = .ok (.aload_n 0, 1) := by decide +kernel
theorem dX1_sweep_137 : decode cX1_sweep 137 = .ok (.getfield 33, 3) := by decide +kernel
theorem dX1_sweep_140 : decode cX1_sweep 140 = .ok (.arraylength, 1) := by decide +kernel
theorem dX1_sweep_141 : decode cX1_sweep 141 = .ok (.if_icmp .ge 27, 3) := by decide +kernel
theorem dX1_sweep_144 : decode cX1_sweep 144 = .ok (.aload_n 0, 1) := by decide +kernel
theorem dX1_sweep_145 : decode cX1_sweep 145 = .ok (.iload_n 1, 1) := by decide +kernel
theorem dX1_sweep_146 : decode cX1_sweep 146 = .ok (.invokevirtual 272, 3) := by decide +kernel
theorem dX1_sweep_149 : decode cX1_sweep 149 = .ok (.ifCond .ne 13, 3) := by decide +kernel
theorem dX1_sweep_152 : decode cX1_sweep 152 = .ok (.aload_n 0, 1) := by decide +kernel
theorem dX1_sweep_153 : decode cX1_sweep 153 = .ok (.getfield 46, 3) := by decide +kernel
theorem dX1_sweep_156 : decode cX1_sweep 156 = .ok (.bipush 6, 2) := by decide +kernel
theorem dX1_sweep_158 : decode cX1_sweep 158 = .ok (.iload_n 1, 1) := by decide +kernel
theorem dX1_sweep_159 : decode cX1_sweep 159 = .ok (.invokevirtual 268, 3) := by decide +kernel
theorem dX1_sweep_162 : decode cX1_sweep 162 = .ok (.iinc 1 1, 3) := by decide +kernel
theorem dX1_sweep_165 : decode cX1_sweep 165 = .ok (.goto (-30), 3) := by decide +kernel
theorem dX1_sweep_168 : decode cX1_sweep 168 = .ok (.aload_n 0, 1) := by decide +kernel
theorem dX1_sweep_169 : decode cX1_sweep 169 = .ok (.getfield 46, 3) := by decide +kernel
theorem dX1_sweep_172 : decode cX1_sweep 172 = .ok (.invokevirtual 276, 3) := by decide +kernel
theorem dX1_sweep_175 : decode cX1_sweep 175 = .ok (.return_, 1) := by decide +kernel
set_option maxHeartbeats 4000000 in
set_option maxRecDepth 100000 in
theorem l1_X1_sweep {G : xG} {n a b : Nat} {Q : Outcome → xS → Prop} {x : kX} {I0 : xI} {R : xR} {v : kV} {th : List xTh} (hT : KT x v th) (hr : kRef R x.N) (hx : X G mX1_sweep n a b Q (kS (kSwA x.N I0 R) R x v) 94 [(1, .ref (x.ad 0 0)), xo, xo, xo, xo, xo] []) (k : Nat) (I : xI) (hn : 4 ≤ n) :
    (k ≤ x.N) → (I = itA (kSw1 R) I0 k) → X G mX1_sweep n a b Q (kS I R x v) 10 [(1, .ref (x.ad 0 0)), (1, .ref (x.ad 23 0)), (1, .int (nI x.N)), (1, .int (nI k)), xo, xo] [] := by
  induction hm : x.N - k using Nat.strongRecOn generalizing k I with
  | _ m_ ih =>
    intro h8 hI
    have hnb := hT.ks.nb
    refine x_iload_n 11 dX1_sweep_10 rfl rfl ?_
    refine x_iload_n 12 dX1_sweep_11 rfl rfl ?_
    refine x_icmp_ge 94 15 dX1_sweep_12 (by decide) rfl (fun c12 => ?_) (fun c12 => ?_)
    · skip
      have c12 : x.N ≤ k := (nI_leI (a := x.N) (b := k) (by omega) (by omega)).mp c12
      refine x_fgt [(1, .ref (x.ad 0 0)), xo, xo, xo, xo, xo] ⟨Or.inr rfl, Or.inl rfl, Or.inl rfl, Or.inl rfl, Or.inl rfl, Or.inl rfl, trivial⟩ ?_
      have e : k = x.N := by omega
      rw [e] at hI
      rw [hI]
      exact hx
    · skip
      have c12 : ¬ (x.N ≤ k) := fun h => c12 ((nI_leI (a := x.N) (b := k) (by omega) (by omega)).mpr h)
      refine x_aload_n 16 dX1_sweep_15 rfl rfl ?_
      refine x_iload_n 17 dX1_sweep_16 rfl rfl ?_
      refine x_aldz 18 dX1_sweep_17 rfl ar_23 rfl (hT.ks.l23 (by omega)) (xb (hT.ks.n23 (by omega)) (by omega) (by omega)) (hT.ks.z23 (by omega)) ?_
      refine x_astore 20 [(1, .ref (x.ad 0 0)), (1, .ref (x.ad 23 0)), (1, .int (nI x.N)), (1, .int (nI k)), (1, .ref (x.ad 6 k)), xo] dX1_sweep_18 rfl (by decide) rfl ?_
      have J67 : ∀ vj_ : Int32, vj_ = b2i (kLoose I k) → X G mX1_sweep n a b Q (kS I R x v) 67 [(1, .ref (x.ad 0 0)), (1, .ref (x.ad 23 0)), (1, .int (nI x.N)), (1, .int (nI k)), (1, .ref (x.ad 6 k)), xo] [.int vj_] := by
        intro vj_ hv_; subst hv_
        refine x_istore 69 [(1, .ref (x.ad 0 0)), (1, .ref (x.ad 23 0)), (1, .int (nI x.N)), (1, .int (nI k)), (1, .ref (x.ad 6 k)), (1, .int (b2i (kLoose I k)))] dX1_sweep_67 rfl (by decide) rfl ?_
        refine x_iload 71 dX1_sweep_69 rfl rfl ?_
        refine x_if_eq 88 74 dX1_sweep_71 (by decide) rfl (fun c71 => ?_) (fun c71 => ?_)
        · skip
          have c71 : ¬ (kLoose I k) := b2i_0.mp c71
          refine x_iinc 91 [(1, .ref (x.ad 0 0)), (1, .ref (x.ad 23 0)), (1, .int (nI x.N)), (1, .int (nI (k + 1))), (1, .ref (x.ad 6 k)), (1, .int (b2i (kLoose I k)))] dX1_sweep_88 rfl (by decide) rfl (xi_1 k) rfl ?_
          refine x_goto 10 dX1_sweep_91 (by decide) ?_
          refine x_fgt [(1, .ref (x.ad 0 0)), (1, .ref (x.ad 23 0)), (1, .int (nI x.N)), (1, .int (nI (k + 1))), xo, xo] ⟨Or.inr rfl, Or.inr rfl, Or.inr rfl, Or.inr rfl, Or.inl rfl, Or.inl rfl, trivial⟩ ?_
          exact ih _ (by rw [← hm]; omega) (k + 1) I rfl (by omega) (by show _ = kSw1 R (itA (kSw1 R) I0 k) k; rw [← hI]; exact (cif_f (fun h => c71 h.1)).symm)
        · skip
          have c71 : kLoose I k := b2i_n0.mp c71
          refine x_aload_n 75 dX1_sweep_74 rfl rfl ?_
          refine x_aload 77 dX1_sweep_75 rfl rfl ?_
          refine x_callV (as := [.ref (x.ad 6 k)]) (rest := []) (i := 0) (n' := n - 1) 80 dX1_sweep_77 rfl mv_X1_264 rfl rfl (hT.ks.l0 (by omega)) (xnh rfl) (by omega) (xst (Nat.le_of_ble_eq_true rfl)) (c_X1_isUsed hT.ks (hr.k (u := v.u)) (by omega) (by omega) ?_)
          change X _ _ _ _ _ _ _ _ _ _
          refine x_vi (w := b2i (kUsed I R k)) rfl ?_
          refine x_if_ne 88 83 dX1_sweep_80 (by decide) rfl (fun c80 => ?_) (fun c80 => ?_)
          · skip
            have c80 : kUsed I R k := b2i_n0.mp c80
            refine x_iinc 91 [(1, .ref (x.ad 0 0)), (1, .ref (x.ad 23 0)), (1, .int (nI x.N)), (1, .int (nI (k + 1))), (1, .ref (x.ad 6 k)), (1, .int (b2i (kLoose I k)))] dX1_sweep_88 rfl (by decide) rfl (xi_1 k) rfl ?_
            refine x_goto 10 dX1_sweep_91 (by decide) ?_
            refine x_fgt [(1, .ref (x.ad 0 0)), (1, .ref (x.ad 23 0)), (1, .int (nI x.N)), (1, .int (nI (k + 1))), xo, xo] ⟨Or.inr rfl, Or.inr rfl, Or.inr rfl, Or.inr rfl, Or.inl rfl, Or.inl rfl, trivial⟩ ?_
            exact ih _ (by rw [← hm]; omega) (k + 1) I rfl (by omega) (by show _ = kSw1 R (itA (kSw1 R) I0 k) k; rw [← hI]; exact (cif_f (fun h => h.2 c80)).symm)
          · skip
            have c80 : ¬ (kUsed I R k) := b2i_0.mp c80
            refine x_aload 85 dX1_sweep_83 rfl rfl ?_
            refine x_callV (as := []) (rest := []) (i := k) (n' := n - 1) 88 dX1_sweep_85 rfl mv_X1_198 rfl rfl (hT.ks.l6 (by omega)) (xnh rfl) (by omega) (xst (Nat.le_of_ble_eq_true rfl)) (c_X7_clear hT.ks (by omega) (by omega) ?_)
            change X _ _ _ _ _ _ _ _ _ _
            refine k_nmA (v := v) (A1 := (iClr I k)) kI_iClr fun I1 hI1 => ?_
            refine x_iinc 91 [(1, .ref (x.ad 0 0)), (1, .ref (x.ad 23 0)), (1, .int (nI x.N)), (1, .int (nI (k + 1))), (1, .ref (x.ad 6 k)), (1, .int (b2i (kLoose I k)))] dX1_sweep_88 rfl (by decide) rfl (xi_1 k) rfl ?_
            refine x_goto 10 dX1_sweep_91 (by decide) ?_
            refine x_fgt [(1, .ref (x.ad 0 0)), (1, .ref (x.ad 23 0)), (1, .int (nI x.N)), (1, .int (nI (k + 1))), xo, xo] ⟨Or.inr rfl, Or.inr rfl, Or.inr rfl, Or.inr rfl, Or.inl rfl, Or.inl rfl, trivial⟩ ?_
            exact ih _ (by rw [← hm]; omega) (k + 1) I1 rfl (by omega) (by show _ = kSw1 R (itA (kSw1 R) I0 k) k; rw [← hI, hI1]; exact (cif_t ⟨c71, c80⟩).symm)
      refine x_aload 22 dX1_sweep_20 rfl rfl ?_
      refine x_geti 25 dX1_sweep_22 rfl fl_X1_182 (hT.ks.l6 (by omega)) ?_
      refine x_vi (w := I 6 k 1) rfl ?_
      refine x_if_le 66 28 dX1_sweep_25 (by decide) rfl (fun c25 => ?_) (fun c25 => ?_)
      · skip
        refine x_iconst (v := 0) 67 dX1_sweep_66 rfl rfl ?_
        exact J67 _ (b2i_f (by rintro ⟨h1, h2, h3, h4, h5⟩; first | exact h1 c25 | exact c33 h2 | exact c41 h3 | exact c50 h4 | exact c59 h5)).symm
      · skip
        refine x_aload 30 dX1_sweep_28 rfl rfl ?_
        refine x_geti 33 dX1_sweep_30 rfl fl_X1_185 (hT.ks.l6 (by omega)) ?_
        refine x_vi (w := I 6 k 2) rfl ?_
        refine x_if_ne 66 36 dX1_sweep_33 (by decide) rfl (fun c33 => ?_) (fun c33 => ?_)
        · skip
          refine x_iconst (v := 0) 67 dX1_sweep_66 rfl rfl ?_
          exact J67 _ (b2i_f (by rintro ⟨h1, h2, h3, h4, h5⟩; first | exact h1 c25 | exact c33 h2 | exact c41 h3 | exact c50 h4 | exact c59 h5)).symm
        · skip
          refine x_aload 38 dX1_sweep_36 rfl rfl ?_
          refine x_geti 41 dX1_sweep_38 rfl fl_X1_191 (hT.ks.l6 (by omega)) ?_
          refine x_vi (w := I 6 k 14) rfl ?_
          refine x_if_ne 66 44 dX1_sweep_41 (by decide) rfl (fun c41 => ?_) (fun c41 => ?_)
          · skip
            refine x_iconst (v := 0) 67 dX1_sweep_66 rfl rfl ?_
            exact J67 _ (b2i_f (by rintro ⟨h1, h2, h3, h4, h5⟩; first | exact h1 c25 | exact c33 h2 | exact c41 h3 | exact c50 h4 | exact c59 h5)).symm
          · skip
            refine x_aload 46 dX1_sweep_44 rfl rfl ?_
            refine x_geti 49 dX1_sweep_46 rfl fl_X1_258 (hT.ks.l6 (by omega)) ?_
            refine x_vi (w := I 6 k 10) rfl ?_
            refine x_iconst (v := -1) 50 dX1_sweep_49 rfl rfl ?_
            refine x_icmp_ne 66 53 dX1_sweep_50 (by decide) rfl (fun c50 => ?_) (fun c50 => ?_)
            · skip
              refine x_iconst (v := 0) 67 dX1_sweep_66 rfl rfl ?_
              exact J67 _ (b2i_f (by rintro ⟨h1, h2, h3, h4, h5⟩; first | exact h1 c25 | exact c33 h2 | exact c41 h3 | exact c50 h4 | exact c59 h5)).symm
            · skip
              refine x_aload 55 dX1_sweep_53 rfl rfl ?_
              refine x_geti 58 dX1_sweep_55 rfl fl_X1_261 (hT.ks.l6 (by omega)) ?_
              refine x_vi (w := I 6 k 11) rfl ?_
              refine x_iconst (v := -1) 59 dX1_sweep_58 rfl rfl ?_
              refine x_icmp_ne 66 62 dX1_sweep_59 (by decide) rfl (fun c59 => ?_) (fun c59 => ?_)
              · skip
                refine x_iconst (v := 0) 67 dX1_sweep_66 rfl rfl ?_
                exact J67 _ (b2i_f (by rintro ⟨h1, h2, h3, h4, h5⟩; first | exact h1 c25 | exact c33 h2 | exact c41 h3 | exact c50 h4 | exact c59 h5)).symm
              · skip
                refine x_iconst (v := 1) 63 dX1_sweep_62 rfl rfl ?_
                refine x_goto 67 dX1_sweep_63 (by decide) ?_
                exact J67 _ (b2i_t (⟨c25, c33, c41, c50, c59⟩)).symm
set_option maxHeartbeats 4000000 in
set_option maxRecDepth 100000 in
theorem l2_X1_sweep {G : xG} {n a b : Nat} {Q : Outcome → xS → Prop} {x : kX} {I : xI} {R : xR} {th0 : List xTh} (hr : kRef R x.N) (hx : ∀ v : kV, KT x v (itL (kSwO I R) th0 384) → X G mX1_sweep n a b Q (kS I R x v) 133 [(1, .ref (x.ad 0 0)), xo, xo, xo, xo, xo] []) (k : Nat) (v : kV) (th : List xTh) (hn : 4 ≤ n) :
    (k ≤ 384) → (KT x v th) → (th = itL (kSwO I R) th0 k) → X G mX1_sweep n a b Q (kS I R x v) 96 [(1, .ref (x.ad 0 0)), (1, .int (nI k)), xo, xo, xo, xo] [] := by
  induction hm : 384 - k using Nat.strongRecOn generalizing k v th with
  | _ m_ ih =>
    intro h8 hT hth
    refine x_iload_n 97 dX1_sweep_96 rfl rfl ?_
    refine x_aload_n 98 dX1_sweep_97 rfl rfl ?_
    refine x_getz 101 dX1_sweep_98 rfl fl_X1_27 (hT.ks.l0 (by omega)) (hT.ks.z0_6 (by omega)) ?_
    refine x_alen 102 dX1_sweep_101 rfl ar_24 (hT.ks.l24 (by omega)) ?_
    refine x_vi (congrArg nI (hT.ks.n24 (by omega))) ?_
    refine x_icmp_ge 133 105 dX1_sweep_102 (by decide) rfl (fun c102 => ?_) (fun c102 => ?_)
    · skip
      have c102 : 384 ≤ k := (nI_leI (a := 384) (b := k) (by omega) (by omega)).mp c102
      refine x_fgt [(1, .ref (x.ad 0 0)), xo, xo, xo, xo, xo] ⟨Or.inr rfl, Or.inl rfl, Or.inl rfl, Or.inl rfl, Or.inl rfl, Or.inl rfl, trivial⟩ ?_
      have e : k = 384 := by omega
      rw [e] at hth
      rw [hth] at hT
      exact hx v hT
    · skip
      have c102 : ¬ (384 ≤ k) := fun h => c102 ((nI_leI (a := 384) (b := k) (by omega) (by omega)).mpr h)
      refine x_aload_n 106 dX1_sweep_105 rfl rfl ?_
      refine x_aload_n 107 dX1_sweep_106 rfl rfl ?_
      refine x_getz 110 dX1_sweep_107 rfl fl_X1_27 (hT.ks.l0 (by omega)) (hT.ks.z0_6 (by omega)) ?_
      refine x_iload_n 111 dX1_sweep_110 rfl rfl ?_
      refine x_aldz 112 dX1_sweep_111 rfl ar_24 rfl (hT.ks.l24 (by omega)) (xb (hT.ks.n24 (by omega)) (by omega) (by omega)) (hT.ks.z24 (by omega)) ?_
      refine x_callV (as := [.ref (x.ad 7 k)]) (rest := []) (i := 0) (n' := n - 1) 115 dX1_sweep_112 rfl mv_X1_243 rfl rfl (hT.ks.l0 (by omega)) (xnh rfl) (by omega) (xst (Nat.le_of_ble_eq_true rfl)) (c_X1_isThere hT.ks (hr.k (u := v.u)) (by omega) (by omega) ?_)
      change X _ _ _ _ _ _ _ _ _ _
      refine x_vi (w := b2i (kThere I R k)) rfl ?_
      refine x_if_ne 127 118 dX1_sweep_115 (by decide) rfl (fun c115 => ?_) (fun c115 => ?_)
      · skip
        have c115 : kThere I R k := b2i_n0.mp c115
        refine x_iinc 130 [(1, .ref (x.ad 0 0)), (1, .int (nI (k + 1))), xo, xo, xo, xo] dX1_sweep_127 rfl (by decide) rfl (xi_1 k) rfl ?_
        refine x_goto 96 dX1_sweep_130 (by decide) ?_
        exact ih _ (by rw [← hm]; omega) (k + 1) v th rfl (by omega) (hT) (by show _ = kSwO I R (itL (kSwO I R) th0 k) k; rw [← hth]; exact (cif_t c115).symm)
      · skip
        have c115 : ¬ (kThere I R k) := b2i_0.mp c115
        refine x_aload_n 119 dX1_sweep_118 rfl rfl ?_
        refine x_getz 122 dX1_sweep_119 rfl fl_X1_46 (hT.ks.l0 (by omega)) (hT.ks.z0_9 (by omega)) ?_
        refine x_iconst (v := 5) 123 dX1_sweep_122 rfl rfl ?_
        refine x_iload_n 124 dX1_sweep_123 rfl rfl ?_
        refine x_callV (as := [.int 5, .int (nI k)]) (rest := []) (i := 0) (n' := n - 1) 127 dX1_sweep_124 rfl mv_X1_268 rfl rfl (hT.ks.l2 (by omega)) (xnh rfl) (by omega) (xst (Nat.le_of_ble_eq_true rfl)) (k_X3_drop hT (by omega) ?_)
        · skip
          intro v1 hT1
          change X _ _ _ _ _ _ _ _ _ _
          refine x_iinc 130 [(1, .ref (x.ad 0 0)), (1, .int (nI (k + 1))), xo, xo, xo, xo] dX1_sweep_127 rfl (by decide) rfl (xi_1 k) rfl ?_
          refine x_goto 96 dX1_sweep_130 (by decide) ?_
          exact ih _ (by rw [← hm]; omega) (k + 1) v1 _ rfl (by omega) (hT1) (by show _ = kSwO I R (itL (kSwO I R) th0 k) k; rw [← hth]; exact (cif_f c115).symm)
set_option maxHeartbeats 4000000 in
set_option maxRecDepth 100000 in
theorem l3_X1_sweep {G : xG} {n a b : Nat} {Q : Outcome → xS → Prop} {x : kX} {I : xI} {R : xR} {th0 : List xTh} (hr : kRef R x.N) (hx : ∀ v : kV, KT x v (itL (kSwP I R) th0 8) → X G mX1_sweep n a b Q (kS I R x v) 168 [(1, .ref (x.ad 0 0)), xo, xo, xo, xo, xo] []) (k : Nat) (v : kV) (th : List xTh) (hn : 4 ≤ n) :
    (k ≤ 8) → (KT x v th) → (th = itL (kSwP I R) th0 k) → X G mX1_sweep n a b Q (kS I R x v) 135 [(1, .ref (x.ad 0 0)), (1, .int (nI k)), xo, xo, xo, xo] [] := by
  induction hm : 8 - k using Nat.strongRecOn generalizing k v th with
  | _ m_ ih =>
    intro h8 hT hth
    refine x_iload_n 136 dX1_sweep_135 rfl rfl ?_
    refine x_aload_n 137 dX1_sweep_136 rfl rfl ?_
    refine x_getz 140 dX1_sweep_137 rfl fl_X1_33 (hT.ks.l0 (by omega)) (hT.ks.z0_7 (by omega)) ?_
    refine x_alen 141 dX1_sweep_140 rfl ar_25 (hT.ks.l25 (by omega)) ?_
    refine x_vi (congrArg nI (hT.ks.n25 (by omega))) ?_
    refine x_icmp_ge 168 144 dX1_sweep_141 (by decide) rfl (fun c141 => ?_) (fun c141 => ?_)
    · skip
      have c141 : 8 ≤ k := (nI_leI (a := 8) (b := k) (by omega) (by omega)).mp c141
      refine x_fgt [(1, .ref (x.ad 0 0)), xo, xo, xo, xo, xo] ⟨Or.inr rfl, Or.inl rfl, Or.inl rfl, Or.inl rfl, Or.inl rfl, Or.inl rfl, trivial⟩ ?_
      have e : k = 8 := by omega
      rw [e] at hth
      rw [hth] at hT
      exact hx v hT
    · skip
      have c141 : ¬ (8 ≤ k) := fun h => c141 ((nI_leI (a := 8) (b := k) (by omega) (by omega)).mpr h)
      refine x_aload_n 145 dX1_sweep_144 rfl rfl ?_
      refine x_iload_n 146 dX1_sweep_145 rfl rfl ?_
      refine x_callV (as := [.int (nI k)]) (rest := []) (i := 0) (n' := n - 1) 149 dX1_sweep_146 rfl mv_X1_272 rfl rfl (hT.ks.l0 (by omega)) (xnh rfl) (by omega) (xst (Nat.le_of_ble_eq_true rfl)) (c_X1_hasPipe hT.ks (hr.k (u := v.u)) (by omega) ?_)
      change X _ _ _ _ _ _ _ _ _ _
      refine x_vi (w := b2i (kHasPipe I R (nI k))) rfl ?_
      refine x_if_ne 162 152 dX1_sweep_149 (by decide) rfl (fun c149 => ?_) (fun c149 => ?_)
      · skip
        have c149 : kHasPipe I R (nI k) := b2i_n0.mp c149
        refine x_iinc 165 [(1, .ref (x.ad 0 0)), (1, .int (nI (k + 1))), xo, xo, xo, xo] dX1_sweep_162 rfl (by decide) rfl (xi_1 k) rfl ?_
        refine x_goto 135 dX1_sweep_165 (by decide) ?_
        exact ih _ (by rw [← hm]; omega) (k + 1) v th rfl (by omega) (hT) (by show _ = kSwP I R (itL (kSwP I R) th0 k) k; rw [← hth]; exact (cif_t c149).symm)
      · skip
        have c149 : ¬ (kHasPipe I R (nI k)) := b2i_0.mp c149
        refine x_aload_n 153 dX1_sweep_152 rfl rfl ?_
        refine x_getz 156 dX1_sweep_153 rfl fl_X1_46 (hT.ks.l0 (by omega)) (hT.ks.z0_9 (by omega)) ?_
        refine x_bipush (v := 6) 158 dX1_sweep_156 rfl rfl ?_
        refine x_iload_n 159 dX1_sweep_158 rfl rfl ?_
        refine x_callV (as := [.int 6, .int (nI k)]) (rest := []) (i := 0) (n' := n - 1) 162 dX1_sweep_159 rfl mv_X1_268 rfl rfl (hT.ks.l2 (by omega)) (xnh rfl) (by omega) (xst (Nat.le_of_ble_eq_true rfl)) (k_X3_drop hT (by omega) ?_)
        · skip
          intro v1 hT1
          change X _ _ _ _ _ _ _ _ _ _
          refine x_iinc 165 [(1, .ref (x.ad 0 0)), (1, .int (nI (k + 1))), xo, xo, xo, xo] dX1_sweep_162 rfl (by decide) rfl (xi_1 k) rfl ?_
          refine x_goto 135 dX1_sweep_165 (by decide) ?_
          exact ih _ (by rw [← hm]; omega) (k + 1) v1 _ rfl (by omega) (hT1) (by show _ = kSwP I R (itL (kSwP I R) th0 k) k; rw [← hth]; exact (cif_f c149).symm)
set_option maxHeartbeats 4000000 in
set_option maxRecDepth 100000 in
theorem c_X1_sweep {G : xG} {n : Nat} {Q : Outcome → xS → Prop} {x : kX} {I : xI} {R : xR} {v : kV} {th : List xTh} (hT : KT x v th) (hr : kRef R x.N) (hn : 4 ≤ n) (hq : ∀ v' : kV, KT x v' (kSwT (kSwA x.N I R) R th) → Q (.returned none) (kS (kSwA x.N I R) R x v')) : xCall G mX1_sweep n [.ref (x.ad 0 0)] (kS I R x v) Q := by
  refine x_met (L0 := [(1, .ref (x.ad 0 0)), xo, xo, xo, xo, xo]) (by decide +kernel) rfl ⟨Nat.le_of_ble_eq_true rfl, rfl⟩ ?_
  refine x_aload_n 1 dX1_sweep_0 rfl rfl ?_
  refine x_getz 4 dX1_sweep_1 rfl fl_X1_115 (hT.ks.l0 (by omega)) (hT.ks.z0_5 (by omega)) ?_
  refine x_astore_n 5 [(1, .ref (x.ad 0 0)), (1, .ref (x.ad 23 0)), xo, xo, xo, xo] dX1_sweep_4 rfl (by decide) rfl ?_
  refine x_aload_n 6 dX1_sweep_5 rfl rfl ?_
  refine x_alen 7 dX1_sweep_6 rfl ar_23 (hT.ks.l23 (by omega)) ?_
  refine x_vi (congrArg nI (hT.ks.n23 (by omega))) ?_
  refine x_istore_n 8 [(1, .ref (x.ad 0 0)), (1, .ref (x.ad 23 0)), (1, .int (nI x.N)), xo, xo, xo] dX1_sweep_7 rfl (by decide) rfl ?_
  refine x_iconst (v := 0) 9 dX1_sweep_8 rfl rfl ?_
  refine x_istore_n 10 [(1, .ref (x.ad 0 0)), (1, .ref (x.ad 23 0)), (1, .int (nI x.N)), (1, .int 0), xo, xo] dX1_sweep_9 rfl (by decide) rfl ?_
  refine l1_X1_sweep hT hr ?_ 0 I (by omega) (by omega) rfl
  refine x_iconst (v := 0) 95 dX1_sweep_94 rfl rfl ?_
  refine x_istore_n 96 [(1, .ref (x.ad 0 0)), (1, .int 0), xo, xo, xo, xo] dX1_sweep_95 rfl (by decide) rfl ?_
  refine l2_X1_sweep hr (fun v2 hT2 => ?_) 0 v th (by omega) (by omega) hT rfl
  refine x_iconst (v := 0) 134 dX1_sweep_133 rfl rfl ?_
  refine x_istore_n 135 [(1, .ref (x.ad 0 0)), (1, .int 0), xo, xo, xo, xo] dX1_sweep_134 rfl (by decide) rfl ?_
  refine l3_X1_sweep hr (fun v3 hT3 => ?_) 0 v2 _ (by omega) (by omega) hT2 rfl
  refine x_aload_n 169 dX1_sweep_168 rfl rfl ?_
  refine x_getz 172 dX1_sweep_169 rfl fl_X1_46 (hT3.ks.l0 (by omega)) (hT3.ks.z0_9 (by omega)) ?_
  refine x_callV (as := []) (rest := []) (i := 0) (n' := n - 1) 175 dX1_sweep_172 rfl mv_X1_276 rfl rfl (hT3.ks.l2 (by omega)) (xnh rfl) (by omega) (xst (Nat.le_of_ble_eq_true rfl)) (k_X3_sweep hT3 (by omega) ?_)
  · skip
    intro v9 hT9
    change X _ _ _ _ _ _ _ _ _ _
    refine x_vreturn dX1_sweep_175 rfl ?_
    exact hq _ hT9
