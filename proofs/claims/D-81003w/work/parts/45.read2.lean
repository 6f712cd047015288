set_option maxRecDepth 100000
theorem pFr.tp {i : Nat} {A B : xI} (h : pFr i A B) : B 27 0 = A 27 0 := by funext j; exact h 27 0 j (by omega) (by omega)
theorem pPar_s {f : Nat → Int32} {e u k : Nat} {l : List (Nat × Nat)} (h : ¬ e ≤ k) : pPar f e (u + 1) k l = (if pSeg f e k < e ∧ f (pSeg f e k) = 0 then none
    else if k < pSeg f e k then (if l.length = 12 ∨ 14 < pSeg f e k - k then none else pPar f e u (pSeg f e k + 1) (l ++ [(k, pSeg f e k - k)]))
    else pPar f e u (pSeg f e k + 1) l) := by
  show (if e ≤ k then some l else _) = _
  rw [if_neg h]
theorem pPar_e {f : Nat → Int32} {e u k : Nat} {l : List (Nat × Nat)} (h : e ≤ k) : pPar f e (u + 1) k l = some l := by
  show (if e ≤ k then some l else _) = _
  rw [if_pos h]
set_option maxHeartbeats 4000000 in
set_option maxRecDepth 100000 in
theorem l_X5_read {G : xG} {n a b : Nat} {Q : Outcome → xS → Prop} {J : xJ} {Z : xR} {T : xT} {R : xR} {I0 : xI} {N B : Nat} (hk : KS Z T N B) {i s e u0 : Nat} {v3 : Int32} (hi : i < 2) (he : e ≤ 256) (hq0 : pPar (I0 27 0) e u0 s [] = none → ∀ I' : xI, pFr i I0 I' → Q (.returned (some (.int 0))) (I', J, R, Z, T)) (hq1 : ∀ l, pPar (I0 27 0) e u0 s [] = some l → l.length ≤ 12 → ∀ I' : xI, pFr i I0 I' → pHold I' i l → I' 4 i 3 = v3 → Q (.returned (some (.int 1))) (I', J, R, Z, T)) (k uu : Nat) (l : List (Nat × Nat)) (I : xI) (hn : 2 ≤ n) :
    (k ≤ e + 1) → (pFr i I0 I) → (pHold I i l) → (l.length ≤ 12) → (I 4 i 3 = v3) → (e + 1 < k + uu) → (pPar (I0 27 0) e u0 s [] = pPar (I0 27 0) e uu k l) → X G mX5_read n a b Q (I, J, R, Z, T) 48 [(1, .ref (T.ad 4 i)), (1, .int (nI s)), (1, .int (nI e)), (1, .int (nI k)), xo] [] := by
  induction hm : e + 1 - k using Nat.strongRecOn generalizing k uu l I with
  | _ m_ ih =>
    intro h8 hF hH hl h3 hu hP
    refine x_iload_n 49 dX5_read_48 rfl rfl ?_
    refine x_iload_n 50 dX5_read_49 rfl rfl ?_
    refine x_icmp_ge 139 53 dX5_read_50 (by decide) rfl (fun c50 => ?_) (fun c50 => ?_)
    · skip
      have c50 : e ≤ k := (nI_leI (a := e) (b := k) (by omega) (by omega)).mp c50
      refine x_iconst (v := 1) 140 dX5_read_139 rfl rfl ?_
      refine x_zreturn dX5_read_140 rfl (Or.inr rfl) ?_
      obtain ⟨u, rfl⟩ : ∃ u, uu = u + 1 := ⟨uu - 1, by omega⟩
      exact hq1 l (by rw [hP, pPar_e (by omega)]) hl I hF hH h3
    · skip
      have c50 : ¬ (e ≤ k) := fun h => c50 ((nI_leI (a := e) (b := k) (by omega) (by omega)).mpr h)
      refine x_iload_n 54 dX5_read_53 rfl rfl ?_
      refine x_istore 56 [(1, .ref (T.ad 4 i)), (1, .int (nI s)), (1, .int (nI e)), (1, .int (nI k)), (1, .int (nI k))] dX5_read_54 rfl (by decide) rfl ?_
      obtain ⟨u, rfl⟩ : ∃ u, uu = u + 1 := ⟨uu - 1, by omega⟩
      refine i_X5_read (k := k) hk hi he (by omega) ?_ k (by omega) (by omega) (fun q h1 h2 => absurd h2 (by omega))
      obtain ⟨g, hg⟩ : ∃ g, g = pSeg (I0 27 0) e k := ⟨_, rfl⟩
      have hsl := pSeg_le (f := I0 27 0) (e := e) (k := k) (by omega)
      rw [← hg] at hsl
      rw [hF.tp, ← hg]
      refine x_iload_n 94 dX5_read_93 rfl rfl ?_
      refine x_iload_n 95 dX5_read_94 rfl rfl ?_
      refine x_icmp_ge 112 98 dX5_read_95 (by decide) rfl (fun c95 => ?_) (fun c95 => ?_)
      · skip
        have c95 : e ≤ g := (nI_leI (a := e) (b := g) (by omega) (by omega)).mp c95
        have hnz : ¬ (g < e ∧ I0 27 0 g = 0) := by rintro ⟨q1, q2⟩; omega
        refine x_iload_n 113 dX5_read_112 rfl rfl ?_
        refine x_iload 115 dX5_read_113 rfl rfl ?_
        refine x_icmp_le 133 118 dX5_read_115 (by decide) rfl (fun c115 => ?_) (fun c115 => ?_)
        · skip
          have c115 : g ≤ k := (nI_leI (a := g) (b := k) (by omega) (by omega)).mp c115
          refine x_iinc 136 [(1, .ref (T.ad 4 i)), (1, .int (nI s)), (1, .int (nI e)), (1, .int (nI (g + 1))), (1, .int (nI k))] dX5_read_133 rfl (by decide) rfl (xi_1 g) rfl ?_
          refine x_goto 48 dX5_read_136 (by decide) ?_
          refine x_fgt [(1, .ref (T.ad 4 i)), (1, .int (nI s)), (1, .int (nI e)), (1, .int (nI (g + 1))), xo] ⟨Or.inr rfl, Or.inr rfl, Or.inr rfl, Or.inr rfl, Or.inl rfl, trivial⟩ ?_
          exact ih _ (by rw [← hm]; omega) (g + 1) u l I rfl (by omega) hF hH hl h3 (by omega) (by rw [hP, pPar_s (by omega), ← hg, if_neg hnz, if_neg (by omega)])
        · skip
          have c115 : ¬ (g ≤ k) := fun h => c115 ((nI_leI (a := g) (b := k) (by omega) (by omega)).mpr h)
          refine x_aload_n 119 dX5_read_118 rfl rfl ?_
          refine x_iload 121 dX5_read_119 rfl rfl ?_
          refine x_iload_n 122 dX5_read_121 rfl rfl ?_
          refine x_iload 124 dX5_read_122 rfl rfl ?_
          refine x_isubn g k 125 dX5_read_124 rfl rfl rfl (by omega) ?_
          refine x_callV (as := [.int (nI k), .int (nI (g - k))]) (rest := []) (i := i) (n' := n - 1) 128 dX5_read_125 rfl mv_X5_34 rfl rfl (hk.l4 (by omega)) (xnh rfl) (by omega) (xst (Nat.le_of_ble_eq_true rfl)) (c_X5_add (st := l.length) hk hi hH.1 hl (by omega) (by omega) ?_ ?_)
          · skip
            intro h12
            change X _ _ _ _ _ _ _ _ _ _
            refine x_if_ne 133 131 dX5_read_128 (by decide) rfl (fun c128 => ?_) (fun c128 => ?_)
            · skip
              exfalso; revert c128; decide
            · skip
              refine x_iconst (v := 0) 132 dX5_read_131 rfl rfl ?_
              refine x_zreturn dX5_read_132 rfl (Or.inl rfl) ?_
              exact hq0 (by rw [hP, pPar_s (by omega), ← hg, if_neg hnz, if_pos (by omega), if_pos (Or.inl h12)]) I hF
          · skip
            intro h12
            change X _ _ _ _ _ _ _ _ _ _
            refine x_if_ne 133 131 dX5_read_128 (by decide) rfl (fun c128 => ?_) (fun c128 => ?_)
            · skip
              have c128 : g - k ≤ 14 := b2i_n0.mp c128
              refine x_iinc 136 [(1, .ref (T.ad 4 i)), (1, .int (nI s)), (1, .int (nI e)), (1, .int (nI (g + 1))), (1, .int (nI k))] dX5_read_133 rfl (by decide) rfl (xi_1 g) rfl ?_
              refine x_goto 48 dX5_read_136 (by decide) ?_
              refine x_fgt [(1, .ref (T.ad 4 i)), (1, .int (nI s)), (1, .int (nI e)), (1, .int (nI (g + 1))), xo] ⟨Or.inr rfl, Or.inr rfl, Or.inr rfl, Or.inr rfl, Or.inl rfl, trivial⟩ ?_
              exact ih _ (by rw [← hm]; omega) (g + 1) u (l ++ [(k, g - k)]) _ rfl (by omega) hF.add hH.add (by rw [List.length_append]; show l.length + 1 ≤ 12; omega) (by unfold pAdd; rw [xu_k (by decide), xu_c (by decide), xu_c (by decide)]; exact h3) (by omega) (by rw [hP, pPar_s (by omega), ← hg, if_neg hnz, if_pos (by omega), if_neg (by omega)])
            · skip
              have c128 : ¬ (g - k ≤ 14) := b2i_0.mp c128
              refine x_iconst (v := 0) 132 dX5_read_131 rfl rfl ?_
              refine x_zreturn dX5_read_132 rfl (Or.inl rfl) ?_
              exact hq0 (by rw [hP, pPar_s (by omega), ← hg, if_neg hnz, if_pos (by omega), if_pos (Or.inr (by omega))]) _ hF.add
      · skip
        have c95 : ¬ (e ≤ g) := fun h => c95 ((nI_leI (a := e) (b := g) (by omega) (by omega)).mpr h)
        refine x_aload_n 99 dX5_read_98 rfl rfl ?_
        refine x_getz 102 dX5_read_99 rfl fl_X5_3 (hk.l4 (by omega)) (hk.z4_4 (by omega)) ?_
        refine x_getz 105 dX5_read_102 rfl fl_X5_26 (hk.l0 (by omega)) (hk.z0_11 (by omega)) ?_
        refine x_iload_n 106 dX5_read_105 rfl rfl ?_
        refine x_bald 107 dX5_read_106 rfl ar_27 (hk.l27 (by omega)) (xb (hk.n27 (by omega)) (by omega) (by omega)) ?_
        refine x_if_ne 112 110 dX5_read_107 (by decide) rfl (fun c107 => ?_) (fun c107 => ?_)
        · skip
          have hnz : ¬ (g < e ∧ I0 27 0 g = 0) := by rintro ⟨q1, q2⟩; exact c107 (by rw [hF.tp]; exact q2)
          refine x_iload_n 113 dX5_read_112 rfl rfl ?_
          refine x_iload 115 dX5_read_113 rfl rfl ?_
          refine x_icmp_le 133 118 dX5_read_115 (by decide) rfl (fun c115 => ?_) (fun c115 => ?_)
          · skip
            have c115 : g ≤ k := (nI_leI (a := g) (b := k) (by omega) (by omega)).mp c115
            refine x_iinc 136 [(1, .ref (T.ad 4 i)), (1, .int (nI s)), (1, .int (nI e)), (1, .int (nI (g + 1))), (1, .int (nI k))] dX5_read_133 rfl (by decide) rfl (xi_1 g) rfl ?_
            refine x_goto 48 dX5_read_136 (by decide) ?_
            refine x_fgt [(1, .ref (T.ad 4 i)), (1, .int (nI s)), (1, .int (nI e)), (1, .int (nI (g + 1))), xo] ⟨Or.inr rfl, Or.inr rfl, Or.inr rfl, Or.inr rfl, Or.inl rfl, trivial⟩ ?_
            exact ih _ (by rw [← hm]; omega) (g + 1) u l I rfl (by omega) hF hH hl h3 (by omega) (by rw [hP, pPar_s (by omega), ← hg, if_neg hnz, if_neg (by omega)])
          · skip
            have c115 : ¬ (g ≤ k) := fun h => c115 ((nI_leI (a := g) (b := k) (by omega) (by omega)).mpr h)
            refine x_aload_n 119 dX5_read_118 rfl rfl ?_
            refine x_iload 121 dX5_read_119 rfl rfl ?_
            refine x_iload_n 122 dX5_read_121 rfl rfl ?_
            refine x_iload 124 dX5_read_122 rfl rfl ?_
            refine x_isubn g k 125 dX5_read_124 rfl rfl rfl (by omega) ?_
            refine x_callV (as := [.int (nI k), .int (nI (g - k))]) (rest := []) (i := i) (n' := n - 1) 128 dX5_read_125 rfl mv_X5_34 rfl rfl (hk.l4 (by omega)) (xnh rfl) (by omega) (xst (Nat.le_of_ble_eq_true rfl)) (c_X5_add (st := l.length) hk hi hH.1 hl (by omega) (by omega) ?_ ?_)
            · skip
              intro h12
              change X _ _ _ _ _ _ _ _ _ _
              refine x_if_ne 133 131 dX5_read_128 (by decide) rfl (fun c128 => ?_) (fun c128 => ?_)
              · skip
                exfalso; revert c128; decide
              · skip
                refine x_iconst (v := 0) 132 dX5_read_131 rfl rfl ?_
                refine x_zreturn dX5_read_132 rfl (Or.inl rfl) ?_
                exact hq0 (by rw [hP, pPar_s (by omega), ← hg, if_neg hnz, if_pos (by omega), if_pos (Or.inl h12)]) I hF
            · skip
              intro h12
              change X _ _ _ _ _ _ _ _ _ _
              refine x_if_ne 133 131 dX5_read_128 (by decide) rfl (fun c128 => ?_) (fun c128 => ?_)
              · skip
                have c128 : g - k ≤ 14 := b2i_n0.mp c128
                refine x_iinc 136 [(1, .ref (T.ad 4 i)), (1, .int (nI s)), (1, .int (nI e)), (1, .int (nI (g + 1))), (1, .int (nI k))] dX5_read_133 rfl (by decide) rfl (xi_1 g) rfl ?_
                refine x_goto 48 dX5_read_136 (by decide) ?_
                refine x_fgt [(1, .ref (T.ad 4 i)), (1, .int (nI s)), (1, .int (nI e)), (1, .int (nI (g + 1))), xo] ⟨Or.inr rfl, Or.inr rfl, Or.inr rfl, Or.inr rfl, Or.inl rfl, trivial⟩ ?_
                exact ih _ (by rw [← hm]; omega) (g + 1) u (l ++ [(k, g - k)]) _ rfl (by omega) hF.add hH.add (by rw [List.length_append]; show l.length + 1 ≤ 12; omega) (by unfold pAdd; rw [xu_k (by decide), xu_c (by decide), xu_c (by decide)]; exact h3) (by omega) (by rw [hP, pPar_s (by omega), ← hg, if_neg hnz, if_pos (by omega), if_neg (by omega)])
              · skip
                have c128 : ¬ (g - k ≤ 14) := b2i_0.mp c128
                refine x_iconst (v := 0) 132 dX5_read_131 rfl rfl ?_
                refine x_zreturn dX5_read_132 rfl (Or.inl rfl) ?_
                exact hq0 (by rw [hP, pPar_s (by omega), ← hg, if_neg hnz, if_pos (by omega), if_pos (Or.inr (by omega))]) _ hF.add
        · skip
          refine x_iconst (v := 0) 111 dX5_read_110 rfl rfl ?_
          refine x_zreturn dX5_read_111 rfl (Or.inl rfl) ?_
          exact hq0 (by rw [hP, pPar_s (by omega), ← hg, if_pos ⟨by omega, by rw [← hF.tp]; exact c107⟩]) I hF
/-- what the bytes from s to e are as a path -/
noncomputable def pParse (f : Nat → Int32) (s e : Nat) : Option (List (Nat × Nat)) := if e - s < 1 ∨ 200 < e - s then none else pPar f e (e + 2 - s) s []
set_option maxHeartbeats 4000000 in
set_option maxRecDepth 100000 in
theorem c_X5_read {G : xG} {n : Nat} {Q : Outcome → xS → Prop} {I : xI} {J : xJ} {R Z : xR} {T : xT} {N B : Nat} (hk : KS Z T N B) {i s e : Nat} (hi : i < 2) (hse : s ≤ e) (he : e ≤ 256) (hn : 2 ≤ n) (hq0 : pParse (I 27 0) s e = none → ∀ I' : xI, pFr i I I' → Q (.returned (some (.int 0))) (I', J, R, Z, T)) (hq1 : ∀ l, pParse (I 27 0) s e = some l → l.length ≤ 12 → ∀ I' : xI, pFr i I I' → pHold I' i l → I' 4 i 3 = b2i (I 27 0 s = 47) → Q (.returned (some (.int 1))) (I', J, R, Z, T)) : xCall G mX5_read n [.ref (T.ad 4 i), .int (nI s), .int (nI e)] (I, J, R, Z, T) Q := by
  refine x_met (L0 := [(1, .ref (T.ad 4 i)), (1, .int (nI s)), (1, .int (nI e)), xo, xo]) (by decide +kernel) rfl ⟨Nat.le_of_ble_eq_true rfl, rfl⟩ ?_
  refine x_aload_n 1 dX5_read_0 rfl rfl ?_
  refine x_iconst (v := 0) 2 dX5_read_1 rfl rfl ?_
  refine x_puti 5 dX5_read_2 rfl fl_X5_22 rfl rfl (hk.l4 (by omega)) ?_
  refine x_nmI fun I1 hI1 => ?_
  refine x_iload_n 6 dX5_read_5 rfl rfl ?_
  refine x_iload_n 7 dX5_read_6 rfl rfl ?_
  refine x_isubn e s 8 dX5_read_7 rfl rfl rfl (by omega) ?_
  refine x_iconst (v := 1) 9 dX5_read_8 rfl rfl ?_
  refine x_icmp_lt 21 12 dX5_read_9 (by decide) rfl (fun c9 => ?_) (fun c9 => ?_)
  · skip
    have c9 : e - s < 1 := (nI_ltI (a := e - s) (b := 1) (by omega) (by omega)).mp c9
    refine x_iconst (v := 0) 22 dX5_read_21 rfl rfl ?_
    refine x_zreturn dX5_read_22 rfl (Or.inl rfl) ?_
    have hF1 : pFr i I I1 := by rw [hI1]; exact pFr.ref0.u (Or.inl ⟨rfl, Or.inl rfl⟩)
    exact hq0 (by unfold pParse; rw [if_pos (by omega)]) I1 hF1
  · skip
    have c9 : ¬ (e - s < 1) := fun h => c9 ((nI_ltI (a := e - s) (b := 1) (by omega) (by omega)).mpr h)
    refine x_iload_n 13 dX5_read_12 rfl rfl ?_
    refine x_iload_n 14 dX5_read_13 rfl rfl ?_
    refine x_isubn e s 15 dX5_read_14 rfl rfl rfl (by omega) ?_
    refine x_sipush (v := 200) 18 dX5_read_15 rfl rfl ?_
    refine x_icmp_le 23 21 dX5_read_18 (by decide) rfl (fun c18 => ?_) (fun c18 => ?_)
    · skip
      have c18 : e - s ≤ 200 := (nI_leI (a := e - s) (b := 200) (by omega) (by omega)).mp c18
      refine x_aload_n 24 dX5_read_23 rfl rfl ?_
      have J43 : ∀ vj_ : Int32, vj_ = b2i (I 27 0 s = 47) → X G mX5_read n T.nc T.ns Q (I1, J, R, Z, T) 43 [(1, .ref (T.ad 4 i)), (1, .int (nI s)), (1, .int (nI e)), xo, xo] [.int vj_, .ref (T.ad 4 i)] := by
        intro vj_ hv_; subst hv_
        refine x_puti 46 dX5_read_43 rfl fl_X5_30 (x_nz (b2i_01 _)) (x_fz0 (b2i_01 _)) (hk.l4 (by omega)) ?_
        refine x_nmI fun I2 hI2 => ?_
        refine x_iload_n 47 dX5_read_46 rfl rfl ?_
        refine x_istore_n 48 [(1, .ref (T.ad 4 i)), (1, .int (nI s)), (1, .int (nI e)), (1, .int (nI s)), xo] dX5_read_47 rfl (by decide) rfl ?_
        have hF1 : pFr i I I2 := by rw [hI2, hI1]; exact (pFr.ref0.u (Or.inl ⟨rfl, Or.inl rfl⟩)).u (Or.inl ⟨rfl, Or.inr rfl⟩)
        have hpe : pParse (I 27 0) s e = pPar (I 27 0) e (e + 2 - s) s [] := by unfold pParse; rw [if_neg (by omega)]
        rw [hpe] at hq0 hq1
        exact l_X5_read (I0 := I) (u0 := e + 2 - s) (v3 := b2i (I 27 0 s = 47)) hk hi he hq0 hq1 s (e + 2 - s) [] I2 hn (by omega) hF1 ⟨by rw [hI2, hI1, xu_k (by decide), xu_eq]; rfl, fun t p hp => by simp at hp⟩ (by simp) (by rw [hI2, xu_eq]) (by omega) rfl
      refine x_aload_n 25 dX5_read_24 rfl rfl ?_
      refine x_getz 28 dX5_read_25 rfl fl_X5_3 (hk.l4 (by omega)) (hk.z4_4 (by omega)) ?_
      refine x_getz 31 dX5_read_28 rfl fl_X5_26 (hk.l0 (by omega)) (hk.z0_11 (by omega)) ?_
      refine x_iload_n 32 dX5_read_31 rfl rfl ?_
      refine x_bald 33 dX5_read_32 rfl ar_27 (hk.l27 (by omega)) (xb (hk.n27 (by omega)) (by omega) (by omega)) ?_
      refine x_bipush (v := 47) 35 dX5_read_33 rfl rfl ?_
      refine x_icmp_ne 42 38 dX5_read_35 (by decide) rfl (fun c35 => ?_) (fun c35 => ?_)
      · skip
        refine x_iconst (v := 0) 43 dX5_read_42 rfl rfl ?_
        exact J43 _ (b2i_f (by intro h; exact c35 (by rw [hI1, xu_c (by decide)]; exact h))).symm
      · skip
        refine x_iconst (v := 1) 39 dX5_read_38 rfl rfl ?_
        refine x_goto 43 dX5_read_39 (by decide) ?_
        exact J43 _ (b2i_t (by rw [← c35, hI1, xu_c (by decide)])).symm
    · skip
      have c18 : ¬ (e - s ≤ 200) := fun h => c18 ((nI_leI (a := e - s) (b := 200) (by omega) (by omega)).mpr h)
      refine x_iconst (v := 0) 22 dX5_read_21 rfl rfl ?_
      refine x_zreturn dX5_read_22 rfl (Or.inl rfl) ?_
      have hF1 : pFr i I I1 := by rw [hI1]; exact pFr.ref0.u (Or.inl ⟨rfl, Or.inl rfl⟩)
      exact hq0 (by unfold pParse; rw [if_pos (by omega)]) I1 hF1
