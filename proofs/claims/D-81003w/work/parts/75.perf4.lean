set_option maxRecDepth 100000
set_option maxHeartbeats 400000 in
set_option maxRecDepth 100000 in
theorem c_X1_perform_3 {G : xG} {n : Nat} {Q : Outcome → xS → Prop} {x : kX} {I : xI} {R : xR} {v : kV} {th : List xTh} {mm : Nat} (hT : KT x v th) (hK : KI (I, R, th) x.N mm) {D Lg : Nat} {pp va vb : Int32} (hmm : mm + 300 < 16384) (hn : 18 ≤ n) (hdn : ¬ (xu I 0 0 12 0) 5 0 7 = 0 → Q (.returned (some (.int (-14)))) (kS (xu I 0 0 12 0) R x v)) (hbad : (xu I 0 0 12 0) 5 0 7 = 0 → (¬ (kLv (xu I 0 0 12 0) pp ∧ (0 ≤ va ∧ va ≤ 7))) → ∀ A', pF2 (xu I 0 0 12 0) A' → Q (.returned (some (.int (-1)))) (kS A' R x v)) (hgo : (xu I 0 0 12 0) 5 0 7 = 0 → kLv (xu I 0 0 12 0) pp → (0 ≤ va ∧ va ≤ 7) → ∀ A', A' = (xu I 0 0 12 0) → kOs Q x (kMid x.N x.B D Lg (iN pp) true (kWho A' (iN pp) false) A' R th (fun s => kDoWrite x.N s (iN pp) (iN va) (iN (I 0 0 12))))) : xCall G mX1_perform n [.ref (x.ad 0 0), .int pp, .int 3, .int va, .int vb] (kS I R x v) Q := by
  refine x_met (L0 := [(1, .ref (x.ad 0 0)), (1, .int pp), (1, .int 3), (1, .int va), (1, .int vb), xo, xo, xo, xo]) (by decide +kernel) rfl ⟨Nat.le_of_ble_eq_true rfl, rfl⟩ ?_
  have hnb := hT.ks.nb
  have hsz2 := hK.wf.sz.2
  refine x_aload_n 1 dX1_perform_0 rfl rfl ?_
  refine x_geti 4 dX1_perform_1 rfl fl_X1_219 (hT.ks.l0 (by omega)) ?_
  refine x_vi (w := I 0 0 12) rfl ?_
  refine x_vi (w := nI ((iN (I 0 0 12)))) hK.wf.sz.1 ?_
  refine x_istore 6 [(1, .ref (x.ad 0 0)), (1, .int pp), (1, .int 3), (1, .int va), (1, .int vb), (1, .int (nI ((iN (I 0 0 12))))), xo, xo, xo] dX1_perform_4 rfl (by decide) rfl ?_
  refine x_iload_n 7 dX1_perform_6 rfl rfl ?_
  refine x_if_eq 26 10 dX1_perform_7 (by decide) rfl (fun c7 => ?_) (fun c7 => ?_)
  · skip
    exfalso; revert c7; decide
  · skip
    refine x_iload_n 11 dX1_perform_10 rfl rfl ?_
    refine x_iconst (v := 3) 12 dX1_perform_11 rfl rfl ?_
    refine x_icmp_eq 26 15 dX1_perform_12 (by decide) rfl (fun c12 => ?_) (fun c12 => ?_)
    · skip
      refine x_iconst (v := 1) 27 dX1_perform_26 rfl rfl ?_
      refine x_goto 31 dX1_perform_27 (by decide) ?_
      refine x_istore 33 [(1, .ref (x.ad 0 0)), (1, .int pp), (1, .int 3), (1, .int va), (1, .int vb), (1, .int (nI ((iN (I 0 0 12))))), (1, .int 1), xo, xo] dX1_perform_31 rfl (by decide) rfl ?_
      refine x_iload 35 dX1_perform_33 rfl rfl ?_
      refine x_if_eq 43 38 dX1_perform_35 (by decide) rfl (fun c35 => ?_) (fun c35 => ?_)
      · skip
        exfalso; revert c35; decide
      · skip
        refine x_aload_n 39 dX1_perform_38 rfl rfl ?_
        refine x_iconst (v := 0) 40 dX1_perform_39 rfl rfl ?_
        refine x_puti 43 dX1_perform_40 rfl fl_X1_219 rfl rfl (hT.ks.l0 (by omega)) ?_
        refine k_nmA (v := v) (kI_xu (c := 0) rfl) fun I1 hI1 => ?_
        refine x_aload_n 44 dX1_perform_43 rfl rfl ?_
        refine x_getz 47 dX1_perform_44 rfl fl_X1_92 (hT.ks.l0 (by omega)) (hT.ks.z0_0 (by omega)) ?_
        refine x_geti 50 dX1_perform_47 rfl fl_X1_160 (hT.ks.l5 (by omega)) ?_
        refine x_vi (w := I1 5 0 7) rfl ?_
        refine x_if_eq 56 53 dX1_perform_50 (by decide) rfl (fun c50 => ?_) (fun c50 => ?_)
        · skip
          refine x_iload_n 57 dX1_perform_56 rfl rfl ?_
          refine x_iconst (v := 0) 58 dX1_perform_57 rfl rfl ?_
          refine x_bipush (v := 15) 60 dX1_perform_58 rfl rfl ?_
          refine x_callS (as := [.int pp, .int 0, .int 15]) (rest := []) (n' := n - 1) 63 dX1_perform_60 rfl ms_X1_211 rfl rfl (nh_perform (by omega)) (by omega) (xst (Nat.le_of_ble_eq_true rfl)) (c_X1_isIn (by omega) ?_)
          change X _ _ _ _ _ _ _ _ _ _
          refine x_vi (w := b2i ((0 : Int32) ≤ pp ∧ pp ≤ (15 : Int32))) rfl ?_
          refine x_if_eq 92 66 dX1_perform_63 (by decide) rfl (fun c63 => ?_) (fun c63 => ?_)
          · skip
            have c63 : ¬ ((0 : Int32) ≤ pp ∧ pp ≤ (15 : Int32)) := b2i_0.mp c63
            refine x_iconst (v := -1) 93 dX1_perform_92 rfl rfl ?_
            refine x_ireturn dX1_perform_93 rfl ?_
            rw [← hI1] at hbad
            exact hbad c50 (fun h => c63 h.1.1) _ pF2.rfl
          · skip
            have c63 : (0 : Int32) ≤ pp ∧ pp ≤ (15 : Int32) := b2i_n0.mp c63
            obtain ⟨p, hp15, rfl⟩ := ppn (m := 15) (by omega) c63
            have hp16 : p < 16 := by omega
            have hpe : iN (nI p) = p := iN_nI (by omega)
            have tpI : I1 27 0 = I 27 0 := by rw [hI1]; funext j; exact xu_c (by decide)
            have he := hK.wf.sz.2
            refine x_aload_n 67 dX1_perform_66 rfl rfl ?_
            refine x_getz 70 dX1_perform_67 rfl fl_X1_39 (hT.ks.l0 (by omega)) (hT.ks.z0_8 (by omega)) ?_
            refine x_iload_n 71 dX1_perform_70 rfl rfl ?_
            refine x_aldz 72 dX1_perform_71 rfl ar_26 rfl (hT.ks.l26 (by omega)) (xb (hT.ks.n26 (by omega)) (by omega) (by omega)) (hT.ks.z26 (by omega)) ?_
            refine x_geti 75 dX1_perform_72 rfl fl_X1_208 (hT.ks.l9 (by omega)) ?_
            refine x_vi (w := I1 9 p 1) rfl ?_
            refine x_iconst (v := 1) 76 dX1_perform_75 rfl rfl ?_
            refine x_icmp_ne 92 79 dX1_perform_76 (by decide) rfl (fun c76 => ?_) (fun c76 => ?_)
            · skip
              refine x_iconst (v := -1) 93 dX1_perform_92 rfl rfl ?_
              refine x_ireturn dX1_perform_93 rfl ?_
              rw [← hI1] at hbad
              exact hbad c50 (fun h => c76 (by have := h.1.2; rw [iN_nI (by omega)] at this; exact this)) _ pF2.rfl
            · skip
              refine x_aload_n 80 dX1_perform_79 rfl rfl ?_
              refine x_iload_n 81 dX1_perform_80 rfl rfl ?_
              refine x_iload_n 82 dX1_perform_81 rfl rfl ?_
              refine x_iload 84 dX1_perform_82 rfl rfl ?_
              refine x_iload 86 dX1_perform_84 rfl rfl ?_
              refine x_callV (as := [.int 3, .int va, .int vb, .int (nI ((iN (I 0 0 12))))]) (rest := []) (i := 0) (n' := n - 1) 89 dX1_perform_86 rfl mv_X1_499 rfl rfl (hT.ks.l0 (by omega)) (nh_perform (by omega)) (by omega) (xst (Nat.le_of_ble_eq_true rfl)) (c_X1_isGood_3 (I := kI I1 v.t) (va := va) (vb := vb) (e := (iN (I 0 0 12))) hT.ks (by omega) (by omega) ?_)
              change X _ _ _ _ _ _ _ _ _ _
              refine x_vi (w := b2i (0 ≤ va ∧ va ≤ 7)) rfl ?_
              refine x_if_ne 94 92 dX1_perform_89 (by decide) rfl (fun c89 => ?_) (fun c89 => ?_)
              · skip
                have c89 : 0 ≤ va ∧ va ≤ 7 := b2i_n0.mp c89
                rw [← hI1] at hgo
                have hq := hgo c50 ⟨c63, by rw [hpe]; exact c76⟩ c89 _ rfl
                rw [hpe] at hq
                unfold kMid at hq
                have hKa : KI (I1, R, th) x.N mm := by rw [hI1]; exact KI.u0s hK
                obtain ⟨d, hd7, rfl⟩ := ppn (m := 7) (by omega) c89
                have ed : iN (nI d) = d := iN_nI (by omega)
                rw [ed] at hq
                refine x_aload_n 95 dX1_perform_94 rfl rfl ?_
                refine x_aload_n 96 dX1_perform_95 rfl rfl ?_
                refine x_getz 99 dX1_perform_96 rfl fl_X1_39 (hT.ks.l0 (by omega)) (hT.ks.z0_8 (by omega)) ?_
                refine x_iload_n 100 dX1_perform_99 rfl rfl ?_
                refine x_aldz 101 dX1_perform_100 rfl ar_26 rfl (hT.ks.l26 (by omega)) (xb (hT.ks.n26 (by omega)) (by omega) (by omega)) (hT.ks.z26 (by omega)) ?_
                refine x_asR ?_
                refine x_putr 104 dX1_perform_101 rfl fl_X1_371 (Or.inl ⟨_, rfl⟩) (hT.ks.l0 (by omega)) (fun _ h => by cases h; exact (hT.ks.l9 (by omega))) ?_
                refine k_nmC (v := v) (kR_xu (c := 0) rfl) fun R1 hR1 => ?_
                refine x_aload_n 105 dX1_perform_104 rfl rfl ?_
                refine x_gets 108 dX1_perform_105 rfl fl_X1_371 (hT.ks.l0 (by omega)) (show R1 0 0 19 = some p by rw [hR1]; exact xu_eq) ?_
                refine x_geti 111 dX1_perform_108 rfl fl_X1_357 (hT.ks.l9 (by omega)) ?_
                refine x_vi (w := I1 9 p 10) rfl ?_
                refine x_if_eq 125 114 dX1_perform_111 (by decide) rfl (fun c111 => ?_) (fun c111 => ?_)
                · skip
                  rw [if_pos c111] at hq
                  refine x_aload_n 126 dX1_perform_125 rfl rfl ?_
                  refine x_gets 129 dX1_perform_126 rfl fl_X1_371 (hT.ks.l0 (by omega)) (show R1 0 0 19 = some p by rw [hR1]; exact xu_eq) ?_
                  refine x_geti 132 dX1_perform_129 rfl fl_X1_503 (hT.ks.l9 (by omega)) ?_
                  refine x_vi (w := I1 9 p 11) rfl ?_
                  refine x_if_eq 150 135 dX1_perform_132 (by decide) rfl (fun c132 => ?_) (fun c132 => ?_)
                  · skip
                    rw [if_neg (fun h => h.2 c132)] at hq
                    refine x_aload_n 151 dX1_perform_150 rfl rfl ?_
                    refine x_aload_n 152 dX1_perform_151 rfl rfl ?_
                    refine x_gets 155 dX1_perform_152 rfl fl_X1_371 (hT.ks.l0 (by omega)) (show R1 0 0 19 = some p by rw [hR1]; exact xu_eq) ?_
                    refine x_callV (as := []) (rest := [.ref (x.ad 0 0)]) (i := p) (n' := n - 1) 158 dX1_perform_155 rfl mv_X1_231 rfl rfl (hT.ks.l9 (by omega)) (nh_perform (by omega)) (by omega) (xst (Nat.le_of_ble_eq_true rfl)) (c_X10_hasGroup hT.ks (by omega) (by omega) ?_)
                    change X _ _ _ _ _ _ _ _ _ _
                    refine x_vi (w := b2i (pGrp I1 p)) rfl ?_
                    refine x_if_ne 167 161 dX1_perform_158 (by decide) rfl (fun c158 => ?_) (fun c158 => ?_)
                    · skip
                      have c158 : pGrp I1 p := b2i_n0.mp c158
                      refine x_iload_n 168 dX1_perform_167 rfl rfl ?_
                      refine x_goto 173 dX1_perform_168 (by decide) ?_
                      refine x_puti 176 dX1_perform_173 rfl fl_X1_291 rfl rfl (hT.ks.l0 (by omega)) ?_
                      refine k_nmA (v := v) (kI_xu (c := 0) rfl) fun I2 hI2 => ?_
                      refine x_aload_n 177 dX1_perform_176 rfl rfl ?_
                      refine x_gets 180 dX1_perform_177 rfl fl_X1_371 (hT.ks.l0 (by omega)) (show R1 0 0 19 = some p by rw [hR1]; exact xu_eq) ?_
                      refine x_getz 183 dX1_perform_180 rfl fl_X1_246 (hT.ks.l9 (by omega)) (hT.ks.z9_4 (by omega)) ?_
                      refine x_iconst (v := 0) 184 dX1_perform_183 rfl rfl ?_
                      refine x_aload_n 185 dX1_perform_184 rfl rfl ?_
                      refine x_getz 188 dX1_perform_185 rfl fl_X1_64 (hT.ks.l0 (by omega)) (hT.ks.z0_20 (by omega)) ?_
                      refine x_iconst (v := 0) 189 dX1_perform_188 rfl rfl ?_
                      refine x_bipush (v := 8) 191 dX1_perform_189 rfl rfl ?_
                      refine x_copyr (sp := 0) (dp := 0) (m := 8) 194 dX1_perform_191 rfl cp_X1_148 ar_46 ar_29 ⟨by decide, _, _, _, rfl, rfl⟩ (hT.ks.l46 (by omega)) (hT.ks.l29 (by omega)) (by decide) (by omega) (xst (Nat.le_of_ble_eq_true rfl)) ⟨by omega, by omega, by omega⟩ (by rw [(hT.ks.n46 (by omega))]; omega) (by rw [(hT.ks.n29 (by omega))]; omega) (fun k_ j_ h_ _ => hT.ks.l7 (hKa.rf.me.row (show xu R 0 0 19 (some p) 46 p k_ = some j_ by rw [← hR1]; exact h_))) ?_
                      refine k_nmC (v := v) (C1 := xur R1 29 0 (va_cpy (R1 46 p) (R1 29 0) 0 0 8)) (kR_xur (c := 29) rfl) fun R2 hR2 => ?_
                      refine x_aload_n 195 dX1_perform_194 rfl rfl ?_
                      refine x_iconst (v := -1) 196 dX1_perform_195 rfl rfl ?_
                      refine x_puti 199 dX1_perform_196 rfl fl_X1_67 rfl rfl (hT.ks.l0 (by omega)) ?_
                      refine k_nmA (v := v) (kI_xu (c := 0) rfl) fun I3 hI3 => ?_
                      have ew : kWho I1 p false = nI p := by unfold kWho; rw [cif_t (Or.inl c158)]
                      have e3 : kS3 I1 R th p (kWho I1 p false) = (I3, R2, th) := by rw [ew]; unfold kS3; rw [hI3, hI2, hR2, hR1]
                      have hK3 : KI (I3, R2, th) x.N mm := by rw [← e3]; exact hKa.s3
                      have hme3 : R2 0 0 19 = some p := by have := kS3_me (A := I1) (C := R) (th := th) (p := p) (w := kWho I1 p false); rw [e3] at this; exact this
                      rw [e3] at hq
                      dsimp only at hq
                      refine x_aload_n 200 dX1_perform_199 rfl rfl ?_
                      refine x_iload_n 201 dX1_perform_200 rfl rfl ?_
                      refine x_iload_n 202 dX1_perform_201 rfl rfl ?_
                      refine x_iload 204 dX1_perform_202 rfl rfl ?_
                      refine x_iload 206 dX1_perform_204 rfl rfl ?_
                      obtain ⟨r_, hd_⟩ : ∃ r : kQ, r = kDoWrite x.N (I3, R2, th) p d (iN (I 0 0 12)) := ⟨_, rfl⟩
                      rw [← hd_] at hq
                      unfold kPf1 at hq
                      refine x_callVH (as := [.int 3, .int (nI d), .int vb, .int (nI ((iN (I 0 0 12))))]) (rest := []) (i := 0) (n' := n - 1) 209 dX1_perform_206 rfl mv_X1_506 rfl rfl (hT.ks.l0 (by omega)) (hd_perform (by omega) (by omega)) (by omega) (xst (Nat.le_of_ble_eq_true rfl)) (c_X1_run_3 hT hK3 (by omega) (by omega) (by omega) hme3 hp16 (by omega) (kOsN hd_ ⟨fun h99 => ?_, ⟨?_, ?_⟩⟩))
                      · skip
                        rw [if_pos h99] at hq
                        exact hq.1 h99
                      · skip
                        intro hz w1 hU1
                        change X _ _ _ _ _ _ _ _ _ _
                        rw [if_neg (by rw [hz]; decide)] at hq
                        obtain ⟨hok, hq⟩ := hq.as
                        rw [if_pos hz] at hq
                        refine x_fgt [(1, .ref (x.ad 0 0)), xo, xo, xo, xo, xo, xo, xo, xo] ⟨Or.inr rfl, Or.inl rfl, Or.inl rfl, Or.inl rfl, Or.inl rfl, Or.inl rfl, Or.inl rfl, Or.inl rfl, Or.inl rfl, trivial⟩ ?_
                        exact s209_pf (D := D) (Lg := Lg) hU1 hp16 hok (by omega) hq
                      · skip
                        intro hz w1 hU1
                        by_cases h9 : r_.1.1 = 99
                        · rw [if_pos h9] at hq; exact absurd h9 hq.1
                        · rw [if_neg h9] at hq
                          obtain ⟨hok, hq⟩ := hq.as
                          rw [if_neg hz] at hq
                          refine ⟨0, rfl, hU1.ks.l3 (by omega), ?_⟩
                          refine x_fgt [(1, .ref (x.ad 0 0)), xo, xo, xo, xo, xo, xo, xo, xo] ⟨Or.inr rfl, Or.inl rfl, Or.inl rfl, Or.inl rfl, Or.inl rfl, Or.inl rfl, Or.inl rfl, Or.inl rfl, Or.inl rfl, trivial⟩ ?_
                          exact s231_pf hU1 hp16 hok (by omega) hq
                    · skip
                      have c158 : ¬ (pGrp I1 p) := b2i_0.mp c158
                      refine x_iload_n 162 dX1_perform_161 rfl rfl ?_
                      refine x_bipush (v := 21) 164 dX1_perform_162 rfl rfl ?_
                      refine x_icmp_ne 171 167 dX1_perform_164 (by decide) rfl (fun c164 => ?_) (fun c164 => ?_)
                      · skip
                        refine x_bipush (v := 16) 173 dX1_perform_171 rfl rfl ?_
                        refine x_puti 176 dX1_perform_173 rfl fl_X1_291 rfl rfl (hT.ks.l0 (by omega)) ?_
                        refine k_nmA (v := v) (kI_xu (c := 0) rfl) fun I2 hI2 => ?_
                        refine x_aload_n 177 dX1_perform_176 rfl rfl ?_
                        refine x_gets 180 dX1_perform_177 rfl fl_X1_371 (hT.ks.l0 (by omega)) (show R1 0 0 19 = some p by rw [hR1]; exact xu_eq) ?_
                        refine x_getz 183 dX1_perform_180 rfl fl_X1_246 (hT.ks.l9 (by omega)) (hT.ks.z9_4 (by omega)) ?_
                        refine x_iconst (v := 0) 184 dX1_perform_183 rfl rfl ?_
                        refine x_aload_n 185 dX1_perform_184 rfl rfl ?_
                        refine x_getz 188 dX1_perform_185 rfl fl_X1_64 (hT.ks.l0 (by omega)) (hT.ks.z0_20 (by omega)) ?_
                        refine x_iconst (v := 0) 189 dX1_perform_188 rfl rfl ?_
                        refine x_bipush (v := 8) 191 dX1_perform_189 rfl rfl ?_
                        refine x_copyr (sp := 0) (dp := 0) (m := 8) 194 dX1_perform_191 rfl cp_X1_148 ar_46 ar_29 ⟨by decide, _, _, _, rfl, rfl⟩ (hT.ks.l46 (by omega)) (hT.ks.l29 (by omega)) (by decide) (by omega) (xst (Nat.le_of_ble_eq_true rfl)) ⟨by omega, by omega, by omega⟩ (by rw [(hT.ks.n46 (by omega))]; omega) (by rw [(hT.ks.n29 (by omega))]; omega) (fun k_ j_ h_ _ => hT.ks.l7 (hKa.rf.me.row (show xu R 0 0 19 (some p) 46 p k_ = some j_ by rw [← hR1]; exact h_))) ?_
                        refine k_nmC (v := v) (C1 := xur R1 29 0 (va_cpy (R1 46 p) (R1 29 0) 0 0 8)) (kR_xur (c := 29) rfl) fun R2 hR2 => ?_
                        refine x_aload_n 195 dX1_perform_194 rfl rfl ?_
                        refine x_iconst (v := -1) 196 dX1_perform_195 rfl rfl ?_
                        refine x_puti 199 dX1_perform_196 rfl fl_X1_67 rfl rfl (hT.ks.l0 (by omega)) ?_
                        refine k_nmA (v := v) (kI_xu (c := 0) rfl) fun I3 hI3 => ?_
                        have ew : kWho I1 p false = 16 := by unfold kWho; rw [cif_f (fun h => h.elim c158 (fun g => by cases g))]
                        have e3 : kS3 I1 R th p (kWho I1 p false) = (I3, R2, th) := by rw [ew]; unfold kS3; rw [hI3, hI2, hR2, hR1]
                        have hK3 : KI (I3, R2, th) x.N mm := by rw [← e3]; exact hKa.s3
                        have hme3 : R2 0 0 19 = some p := by have := kS3_me (A := I1) (C := R) (th := th) (p := p) (w := kWho I1 p false); rw [e3] at this; exact this
                        rw [e3] at hq
                        dsimp only at hq
                        refine x_aload_n 200 dX1_perform_199 rfl rfl ?_
                        refine x_iload_n 201 dX1_perform_200 rfl rfl ?_
                        refine x_iload_n 202 dX1_perform_201 rfl rfl ?_
                        refine x_iload 204 dX1_perform_202 rfl rfl ?_
                        refine x_iload 206 dX1_perform_204 rfl rfl ?_
                        obtain ⟨r_, hd_⟩ : ∃ r : kQ, r = kDoWrite x.N (I3, R2, th) p d (iN (I 0 0 12)) := ⟨_, rfl⟩
                        rw [← hd_] at hq
                        unfold kPf1 at hq
                        refine x_callVH (as := [.int 3, .int (nI d), .int vb, .int (nI ((iN (I 0 0 12))))]) (rest := []) (i := 0) (n' := n - 1) 209 dX1_perform_206 rfl mv_X1_506 rfl rfl (hT.ks.l0 (by omega)) (hd_perform (by omega) (by omega)) (by omega) (xst (Nat.le_of_ble_eq_true rfl)) (c_X1_run_3 hT hK3 (by omega) (by omega) (by omega) hme3 hp16 (by omega) (kOsN hd_ ⟨fun h99 => ?_, ⟨?_, ?_⟩⟩))
                        · skip
                          rw [if_pos h99] at hq
                          exact hq.1 h99
                        · skip
                          intro hz w1 hU1
                          change X _ _ _ _ _ _ _ _ _ _
                          rw [if_neg (by rw [hz]; decide)] at hq
                          obtain ⟨hok, hq⟩ := hq.as
                          rw [if_pos hz] at hq
                          refine x_fgt [(1, .ref (x.ad 0 0)), xo, xo, xo, xo, xo, xo, xo, xo] ⟨Or.inr rfl, Or.inl rfl, Or.inl rfl, Or.inl rfl, Or.inl rfl, Or.inl rfl, Or.inl rfl, Or.inl rfl, Or.inl rfl, trivial⟩ ?_
                          exact s209_pf (D := D) (Lg := Lg) hU1 hp16 hok (by omega) hq
                        · skip
                          intro hz w1 hU1
                          by_cases h9 : r_.1.1 = 99
                          · rw [if_pos h9] at hq; exact absurd h9 hq.1
                          · rw [if_neg h9] at hq
                            obtain ⟨hok, hq⟩ := hq.as
                            rw [if_neg hz] at hq
                            refine ⟨0, rfl, hU1.ks.l3 (by omega), ?_⟩
                            refine x_fgt [(1, .ref (x.ad 0 0)), xo, xo, xo, xo, xo, xo, xo, xo] ⟨Or.inr rfl, Or.inl rfl, Or.inl rfl, Or.inl rfl, Or.inl rfl, Or.inl rfl, Or.inl rfl, Or.inl rfl, Or.inl rfl, trivial⟩ ?_
                            exact s231_pf hU1 hp16 hok (by omega) hq
                      · skip
                        exfalso; revert c164; decide
                  · skip
                    refine x_iload_n 136 dX1_perform_135 rfl rfl ?_
                    refine x_bipush (v := 22) 138 dX1_perform_136 rfl rfl ?_
                    refine x_icmp_eq 150 141 dX1_perform_138 (by decide) rfl (fun c138 => ?_) (fun c138 => ?_)
                    · skip
                      exfalso; revert c138; decide
                    · skip
                      refine x_iload_n 142 dX1_perform_141 rfl rfl ?_
                      refine x_bipush (v := 23) 144 dX1_perform_142 rfl rfl ?_
                      refine x_icmp_eq 150 147 dX1_perform_144 (by decide) rfl (fun c144 => ?_) (fun c144 => ?_)
                      · skip
                        exfalso; revert c144; decide
                      · skip
                        refine x_bipush (v := -5) 149 dX1_perform_147 rfl rfl ?_
                        refine x_ireturn dX1_perform_149 rfl ?_
                        rw [if_pos ⟨rfl, c132⟩] at hq
                        rw [hR1]
                        exact hq.ret3 hT
                · skip
                  refine x_aload_n 115 dX1_perform_114 rfl rfl ?_
                  refine x_gets 118 dX1_perform_115 rfl fl_X1_371 (hT.ks.l0 (by omega)) (show R1 0 0 19 = some p by rw [hR1]; exact xu_eq) ?_
                  refine x_iconst (v := 0) 119 dX1_perform_118 rfl rfl ?_
                  refine x_puti 122 dX1_perform_119 rfl fl_X1_357 rfl rfl (hT.ks.l9 (by omega)) ?_
                  refine k_nmA (v := v) (kI_xu (c := 9) rfl) fun I2 hI2 => ?_
                  refine x_bipush (v := -9) 124 dX1_perform_122 rfl rfl ?_
                  refine x_ireturn dX1_perform_124 rfl ?_
                  rw [if_neg c111] at hq
                  rw [hI2, hR1]
                  exact hq.ret3 hT
              · skip
                have c89 : ¬ (0 ≤ va ∧ va ≤ 7) := b2i_0.mp c89
                refine x_iconst (v := -1) 93 dX1_perform_92 rfl rfl ?_
                refine x_ireturn dX1_perform_93 rfl ?_
                rw [← hI1] at hbad
                exact hbad c50 (fun h => c89 h.2) _ pF2.rfl
        · skip
          refine x_bipush (v := -14) 55 dX1_perform_53 rfl rfl ?_
          refine x_ireturn dX1_perform_55 rfl ?_
          rw [← hI1] at hdn
          exact hdn c50
    · skip
      exfalso; revert c12; decide
set_option maxHeartbeats 400000 in
set_option maxRecDepth 100000 in
theorem c_X1_perform_4 {G : xG} {n : Nat} {Q : Outcome → xS → Prop} {x : kX} {I : xI} {R : xR} {v : kV} {th : List xTh} {mm : Nat} (hT : KT x v th) (hK : KI (I, R, th) x.N mm) {D Lg : Nat} {pp va vb : Int32} (hmm : mm + 300 < 16384) (hn : 18 ≤ n) (hdn : ¬ I 5 0 7 = 0 → Q (.returned (some (.int (-14)))) (kS I R x v)) (hbad : I 5 0 7 = 0 → (¬ (kLv I pp ∧ ((0 ≤ va ∧ va ≤ 7) ∧ (0 ≤ vb ∧ vb ≤ 8192)))) → ∀ A', pF2 I A' → Q (.returned (some (.int (-1)))) (kS A' R x v)) (hgo : I 5 0 7 = 0 → kLv I pp → ((0 ≤ va ∧ va ≤ 7) ∧ (0 ≤ vb ∧ vb ≤ 8192)) → ∀ A', A' = I → kOs Q x (kMid x.N x.B D Lg (iN pp) true (kWho A' (iN pp) false) A' R th (fun s => kDoSeek x.N s (iN pp) (iN va) vb))) : xCall G mX1_perform n [.ref (x.ad 0 0), .int pp, .int 4, .int va, .int vb] (kS I R x v) Q := by
  refine x_met (L0 := [(1, .ref (x.ad 0 0)), (1, .int pp), (1, .int 4), (1, .int va), (1, .int vb), xo, xo, xo, xo]) (by decide +kernel) rfl ⟨Nat.le_of_ble_eq_true rfl, rfl⟩ ?_
  have hnb := hT.ks.nb
  have hsz2 := hK.wf.sz.2
  refine x_aload_n 1 dX1_perform_0 rfl rfl ?_
  refine x_geti 4 dX1_perform_1 rfl fl_X1_219 (hT.ks.l0 (by omega)) ?_
  refine x_vi (w := I 0 0 12) rfl ?_
  refine x_vi (w := nI ((iN (I 0 0 12)))) hK.wf.sz.1 ?_
  refine x_istore 6 [(1, .ref (x.ad 0 0)), (1, .int pp), (1, .int 4), (1, .int va), (1, .int vb), (1, .int (nI ((iN (I 0 0 12))))), xo, xo, xo] dX1_perform_4 rfl (by decide) rfl ?_
  refine x_iload_n 7 dX1_perform_6 rfl rfl ?_
  refine x_if_eq 26 10 dX1_perform_7 (by decide) rfl (fun c7 => ?_) (fun c7 => ?_)
  · skip
    exfalso; revert c7; decide
  · skip
    refine x_iload_n 11 dX1_perform_10 rfl rfl ?_
    refine x_iconst (v := 3) 12 dX1_perform_11 rfl rfl ?_
    refine x_icmp_eq 26 15 dX1_perform_12 (by decide) rfl (fun c12 => ?_) (fun c12 => ?_)
    · skip
      exfalso; revert c12; decide
    · skip
      refine x_iload_n 16 dX1_perform_15 rfl rfl ?_
      refine x_bipush (v := 8) 18 dX1_perform_16 rfl rfl ?_
      refine x_bipush (v := 15) 20 dX1_perform_18 rfl rfl ?_
      refine x_callS (as := [.int 4, .int 8, .int 15]) (rest := []) (n' := n - 1) 23 dX1_perform_20 rfl ms_X1_211 rfl rfl (nh_perform (by omega)) (by omega) (xst (Nat.le_of_ble_eq_true rfl)) (c_X1_isIn (by omega) ?_)
      change X _ _ _ _ _ _ _ _ _ _
      refine x_vi (w := b2i ((8 : Int32) ≤ (4 : Int32) ∧ (4 : Int32) ≤ (15 : Int32))) rfl ?_
      refine x_if_eq 30 26 dX1_perform_23 (by decide) rfl (fun c23 => ?_) (fun c23 => ?_)
      · skip
        have c23 : ¬ ((8 : Int32) ≤ (4 : Int32) ∧ (4 : Int32) ≤ (15 : Int32)) := b2i_0.mp c23
        refine x_iconst (v := 0) 31 dX1_perform_30 rfl rfl ?_
        refine x_istore 33 [(1, .ref (x.ad 0 0)), (1, .int pp), (1, .int 4), (1, .int va), (1, .int vb), (1, .int (nI ((iN (I 0 0 12))))), (1, .int 0), xo, xo] dX1_perform_31 rfl (by decide) rfl ?_
        refine x_iload 35 dX1_perform_33 rfl rfl ?_
        refine x_if_eq 43 38 dX1_perform_35 (by decide) rfl (fun c35 => ?_) (fun c35 => ?_)
        · skip
          refine x_aload_n 44 dX1_perform_43 rfl rfl ?_
          refine x_getz 47 dX1_perform_44 rfl fl_X1_92 (hT.ks.l0 (by omega)) (hT.ks.z0_0 (by omega)) ?_
          refine x_geti 50 dX1_perform_47 rfl fl_X1_160 (hT.ks.l5 (by omega)) ?_
          refine x_vi (w := I 5 0 7) rfl ?_
          refine x_if_eq 56 53 dX1_perform_50 (by decide) rfl (fun c50 => ?_) (fun c50 => ?_)
          · skip
            refine x_iload_n 57 dX1_perform_56 rfl rfl ?_
            refine x_iconst (v := 0) 58 dX1_perform_57 rfl rfl ?_
            refine x_bipush (v := 15) 60 dX1_perform_58 rfl rfl ?_
            refine x_callS (as := [.int pp, .int 0, .int 15]) (rest := []) (n' := n - 1) 63 dX1_perform_60 rfl ms_X1_211 rfl rfl (nh_perform (by omega)) (by omega) (xst (Nat.le_of_ble_eq_true rfl)) (c_X1_isIn (by omega) ?_)
            change X _ _ _ _ _ _ _ _ _ _
            refine x_vi (w := b2i ((0 : Int32) ≤ pp ∧ pp ≤ (15 : Int32))) rfl ?_
            refine x_if_eq 92 66 dX1_perform_63 (by decide) rfl (fun c63 => ?_) (fun c63 => ?_)
            · skip
              have c63 : ¬ ((0 : Int32) ≤ pp ∧ pp ≤ (15 : Int32)) := b2i_0.mp c63
              refine x_iconst (v := -1) 93 dX1_perform_92 rfl rfl ?_
              refine x_ireturn dX1_perform_93 rfl ?_
              exact hbad c50 (fun h => c63 h.1.1) _ pF2.rfl
            · skip
              have c63 : (0 : Int32) ≤ pp ∧ pp ≤ (15 : Int32) := b2i_n0.mp c63
              obtain ⟨p, hp15, rfl⟩ := ppn (m := 15) (by omega) c63
              have hp16 : p < 16 := by omega
              have hpe : iN (nI p) = p := iN_nI (by omega)
              have tpI : I 27 0 = I 27 0 := by rfl
              have he := hK.wf.sz.2
              refine x_aload_n 67 dX1_perform_66 rfl rfl ?_
              refine x_getz 70 dX1_perform_67 rfl fl_X1_39 (hT.ks.l0 (by omega)) (hT.ks.z0_8 (by omega)) ?_
              refine x_iload_n 71 dX1_perform_70 rfl rfl ?_
              refine x_aldz 72 dX1_perform_71 rfl ar_26 rfl (hT.ks.l26 (by omega)) (xb (hT.ks.n26 (by omega)) (by omega) (by omega)) (hT.ks.z26 (by omega)) ?_
              refine x_geti 75 dX1_perform_72 rfl fl_X1_208 (hT.ks.l9 (by omega)) ?_
              refine x_vi (w := I 9 p 1) rfl ?_
              refine x_iconst (v := 1) 76 dX1_perform_75 rfl rfl ?_
              refine x_icmp_ne 92 79 dX1_perform_76 (by decide) rfl (fun c76 => ?_) (fun c76 => ?_)
              · skip
                refine x_iconst (v := -1) 93 dX1_perform_92 rfl rfl ?_
                refine x_ireturn dX1_perform_93 rfl ?_
                exact hbad c50 (fun h => c76 (by have := h.1.2; rw [iN_nI (by omega)] at this; exact this)) _ pF2.rfl
              · skip
                refine x_aload_n 80 dX1_perform_79 rfl rfl ?_
                refine x_iload_n 81 dX1_perform_80 rfl rfl ?_
                refine x_iload_n 82 dX1_perform_81 rfl rfl ?_
                refine x_iload 84 dX1_perform_82 rfl rfl ?_
                refine x_iload 86 dX1_perform_84 rfl rfl ?_
                refine x_callV (as := [.int 4, .int va, .int vb, .int (nI ((iN (I 0 0 12))))]) (rest := []) (i := 0) (n' := n - 1) 89 dX1_perform_86 rfl mv_X1_499 rfl rfl (hT.ks.l0 (by omega)) (nh_perform (by omega)) (by omega) (xst (Nat.le_of_ble_eq_true rfl)) (c_X1_isGood_4 (I := kI I v.t) (va := va) (vb := vb) (e := (iN (I 0 0 12))) hT.ks (by omega) (by omega) ?_)
                change X _ _ _ _ _ _ _ _ _ _
                refine x_vi (w := b2i ((0 ≤ va ∧ va ≤ 7) ∧ (0 ≤ vb ∧ vb ≤ 8192))) rfl ?_
                refine x_if_ne 94 92 dX1_perform_89 (by decide) rfl (fun c89 => ?_) (fun c89 => ?_)
                · skip
                  have c89 : (0 ≤ va ∧ va ≤ 7) ∧ (0 ≤ vb ∧ vb ≤ 8192) := b2i_n0.mp c89
                  have hq := hgo c50 ⟨c63, by rw [hpe]; exact c76⟩ c89 _ rfl
                  rw [hpe] at hq
                  unfold kMid at hq
                  have hKa : KI (I, R, th) x.N mm := hK
                  obtain ⟨d, hd7, rfl⟩ := ppn (m := 7) (by omega) c89.1
                  have ed : iN (nI d) = d := iN_nI (by omega)
                  rw [ed] at hq
                  refine x_aload_n 95 dX1_perform_94 rfl rfl ?_
                  refine x_aload_n 96 dX1_perform_95 rfl rfl ?_
                  refine x_getz 99 dX1_perform_96 rfl fl_X1_39 (hT.ks.l0 (by omega)) (hT.ks.z0_8 (by omega)) ?_
                  refine x_iload_n 100 dX1_perform_99 rfl rfl ?_
                  refine x_aldz 101 dX1_perform_100 rfl ar_26 rfl (hT.ks.l26 (by omega)) (xb (hT.ks.n26 (by omega)) (by omega) (by omega)) (hT.ks.z26 (by omega)) ?_
                  refine x_asR ?_
                  refine x_putr 104 dX1_perform_101 rfl fl_X1_371 (Or.inl ⟨_, rfl⟩) (hT.ks.l0 (by omega)) (fun _ h => by cases h; exact (hT.ks.l9 (by omega))) ?_
                  refine k_nmC (v := v) (kR_xu (c := 0) rfl) fun R1 hR1 => ?_
                  refine x_aload_n 105 dX1_perform_104 rfl rfl ?_
                  refine x_gets 108 dX1_perform_105 rfl fl_X1_371 (hT.ks.l0 (by omega)) (show R1 0 0 19 = some p by rw [hR1]; exact xu_eq) ?_
                  refine x_geti 111 dX1_perform_108 rfl fl_X1_357 (hT.ks.l9 (by omega)) ?_
                  refine x_vi (w := I 9 p 10) rfl ?_
                  refine x_if_eq 125 114 dX1_perform_111 (by decide) rfl (fun c111 => ?_) (fun c111 => ?_)
                  · skip
                    rw [if_pos c111] at hq
                    refine x_aload_n 126 dX1_perform_125 rfl rfl ?_
                    refine x_gets 129 dX1_perform_126 rfl fl_X1_371 (hT.ks.l0 (by omega)) (show R1 0 0 19 = some p by rw [hR1]; exact xu_eq) ?_
                    refine x_geti 132 dX1_perform_129 rfl fl_X1_503 (hT.ks.l9 (by omega)) ?_
                    refine x_vi (w := I 9 p 11) rfl ?_
                    refine x_if_eq 150 135 dX1_perform_132 (by decide) rfl (fun c132 => ?_) (fun c132 => ?_)
                    · skip
                      rw [if_neg (fun h => h.2 c132)] at hq
                      refine x_aload_n 151 dX1_perform_150 rfl rfl ?_
                      refine x_aload_n 152 dX1_perform_151 rfl rfl ?_
                      refine x_gets 155 dX1_perform_152 rfl fl_X1_371 (hT.ks.l0 (by omega)) (show R1 0 0 19 = some p by rw [hR1]; exact xu_eq) ?_
                      refine x_callV (as := []) (rest := [.ref (x.ad 0 0)]) (i := p) (n' := n - 1) 158 dX1_perform_155 rfl mv_X1_231 rfl rfl (hT.ks.l9 (by omega)) (nh_perform (by omega)) (by omega) (xst (Nat.le_of_ble_eq_true rfl)) (c_X10_hasGroup hT.ks (by omega) (by omega) ?_)
                      change X _ _ _ _ _ _ _ _ _ _
                      refine x_vi (w := b2i (pGrp I p)) rfl ?_
                      refine x_if_ne 167 161 dX1_perform_158 (by decide) rfl (fun c158 => ?_) (fun c158 => ?_)
                      · skip
                        have c158 : pGrp I p := b2i_n0.mp c158
                        refine x_iload_n 168 dX1_perform_167 rfl rfl ?_
                        refine x_goto 173 dX1_perform_168 (by decide) ?_
                        refine x_puti 176 dX1_perform_173 rfl fl_X1_291 rfl rfl (hT.ks.l0 (by omega)) ?_
                        refine k_nmA (v := v) (kI_xu (c := 0) rfl) fun I1 hI1 => ?_
                        refine x_aload_n 177 dX1_perform_176 rfl rfl ?_
                        refine x_gets 180 dX1_perform_177 rfl fl_X1_371 (hT.ks.l0 (by omega)) (show R1 0 0 19 = some p by rw [hR1]; exact xu_eq) ?_
                        refine x_getz 183 dX1_perform_180 rfl fl_X1_246 (hT.ks.l9 (by omega)) (hT.ks.z9_4 (by omega)) ?_
                        refine x_iconst (v := 0) 184 dX1_perform_183 rfl rfl ?_
                        refine x_aload_n 185 dX1_perform_184 rfl rfl ?_
                        refine x_getz 188 dX1_perform_185 rfl fl_X1_64 (hT.ks.l0 (by omega)) (hT.ks.z0_20 (by omega)) ?_
                        refine x_iconst (v := 0) 189 dX1_perform_188 rfl rfl ?_
                        refine x_bipush (v := 8) 191 dX1_perform_189 rfl rfl ?_
                        refine x_copyr (sp := 0) (dp := 0) (m := 8) 194 dX1_perform_191 rfl cp_X1_148 ar_46 ar_29 ⟨by decide, _, _, _, rfl, rfl⟩ (hT.ks.l46 (by omega)) (hT.ks.l29 (by omega)) (by decide) (by omega) (xst (Nat.le_of_ble_eq_true rfl)) ⟨by omega, by omega, by omega⟩ (by rw [(hT.ks.n46 (by omega))]; omega) (by rw [(hT.ks.n29 (by omega))]; omega) (fun k_ j_ h_ _ => hT.ks.l7 (hKa.rf.me.row (show xu R 0 0 19 (some p) 46 p k_ = some j_ by rw [← hR1]; exact h_))) ?_
                        refine k_nmC (v := v) (C1 := xur R1 29 0 (va_cpy (R1 46 p) (R1 29 0) 0 0 8)) (kR_xur (c := 29) rfl) fun R2 hR2 => ?_
                        refine x_aload_n 195 dX1_perform_194 rfl rfl ?_
                        refine x_iconst (v := -1) 196 dX1_perform_195 rfl rfl ?_
                        refine x_puti 199 dX1_perform_196 rfl fl_X1_67 rfl rfl (hT.ks.l0 (by omega)) ?_
                        refine k_nmA (v := v) (kI_xu (c := 0) rfl) fun I2 hI2 => ?_
                        have ew : kWho I p false = nI p := by unfold kWho; rw [cif_t (Or.inl c158)]
                        have e3 : kS3 I R th p (kWho I p false) = (I2, R2, th) := by rw [ew]; unfold kS3; rw [hI2, hI1, hR2, hR1]
                        have hK3 : KI (I2, R2, th) x.N mm := by rw [← e3]; exact hKa.s3
                        have hme3 : R2 0 0 19 = some p := by have := kS3_me (A := I) (C := R) (th := th) (p := p) (w := kWho I p false); rw [e3] at this; exact this
                        rw [e3] at hq
                        dsimp only at hq
                        refine x_aload_n 200 dX1_perform_199 rfl rfl ?_
                        refine x_iload_n 201 dX1_perform_200 rfl rfl ?_
                        refine x_iload_n 202 dX1_perform_201 rfl rfl ?_
                        refine x_iload 204 dX1_perform_202 rfl rfl ?_
                        refine x_iload 206 dX1_perform_204 rfl rfl ?_
                        obtain ⟨r_, hd_⟩ : ∃ r : kQ, r = kDoSeek x.N (I2, R2, th) p d vb := ⟨_, rfl⟩
                        rw [← hd_] at hq
                        unfold kPf1 at hq
                        refine x_callVH (as := [.int 4, .int (nI d), .int vb, .int (nI ((iN (I 0 0 12))))]) (rest := []) (i := 0) (n' := n - 1) 209 dX1_perform_206 rfl mv_X1_506 rfl rfl (hT.ks.l0 (by omega)) (hd_perform (by omega) (by omega)) (by omega) (xst (Nat.le_of_ble_eq_true rfl)) (c_X1_run_4 hT hK3 (by omega) (by omega) hme3 hp16 (by omega) (kOsN hd_ ⟨fun h99 => ?_, ⟨?_, ?_⟩⟩))
                        · skip
                          rw [if_pos h99] at hq
                          exact hq.1 h99
                        · skip
                          intro hz w1 hU1
                          change X _ _ _ _ _ _ _ _ _ _
                          rw [if_neg (by rw [hz]; decide)] at hq
                          obtain ⟨hok, hq⟩ := hq.as
                          rw [if_pos hz] at hq
                          refine x_fgt [(1, .ref (x.ad 0 0)), xo, xo, xo, xo, xo, xo, xo, xo] ⟨Or.inr rfl, Or.inl rfl, Or.inl rfl, Or.inl rfl, Or.inl rfl, Or.inl rfl, Or.inl rfl, Or.inl rfl, Or.inl rfl, trivial⟩ ?_
                          exact s209_pf (D := D) (Lg := Lg) hU1 hp16 hok (by omega) hq
                        · skip
                          intro hz w1 hU1
                          by_cases h9 : r_.1.1 = 99
                          · rw [if_pos h9] at hq; exact absurd h9 hq.1
                          · rw [if_neg h9] at hq
                            obtain ⟨hok, hq⟩ := hq.as
                            rw [if_neg hz] at hq
                            refine ⟨0, rfl, hU1.ks.l3 (by omega), ?_⟩
                            refine x_fgt [(1, .ref (x.ad 0 0)), xo, xo, xo, xo, xo, xo, xo, xo] ⟨Or.inr rfl, Or.inl rfl, Or.inl rfl, Or.inl rfl, Or.inl rfl, Or.inl rfl, Or.inl rfl, Or.inl rfl, Or.inl rfl, trivial⟩ ?_
                            exact s231_pf hU1 hp16 hok (by omega) hq
                      · skip
                        have c158 : ¬ (pGrp I p) := b2i_0.mp c158
                        refine x_iload_n 162 dX1_perform_161 rfl rfl ?_
                        refine x_bipush (v := 21) 164 dX1_perform_162 rfl rfl ?_
                        refine x_icmp_ne 171 167 dX1_perform_164 (by decide) rfl (fun c164 => ?_) (fun c164 => ?_)
                        · skip
                          refine x_bipush (v := 16) 173 dX1_perform_171 rfl rfl ?_
                          refine x_puti 176 dX1_perform_173 rfl fl_X1_291 rfl rfl (hT.ks.l0 (by omega)) ?_
                          refine k_nmA (v := v) (kI_xu (c := 0) rfl) fun I1 hI1 => ?_
                          refine x_aload_n 177 dX1_perform_176 rfl rfl ?_
                          refine x_gets 180 dX1_perform_177 rfl fl_X1_371 (hT.ks.l0 (by omega)) (show R1 0 0 19 = some p by rw [hR1]; exact xu_eq) ?_
                          refine x_getz 183 dX1_perform_180 rfl fl_X1_246 (hT.ks.l9 (by omega)) (hT.ks.z9_4 (by omega)) ?_
                          refine x_iconst (v := 0) 184 dX1_perform_183 rfl rfl ?_
                          refine x_aload_n 185 dX1_perform_184 rfl rfl ?_
                          refine x_getz 188 dX1_perform_185 rfl fl_X1_64 (hT.ks.l0 (by omega)) (hT.ks.z0_20 (by omega)) ?_
                          refine x_iconst (v := 0) 189 dX1_perform_188 rfl rfl ?_
                          refine x_bipush (v := 8) 191 dX1_perform_189 rfl rfl ?_
                          refine x_copyr (sp := 0) (dp := 0) (m := 8) 194 dX1_perform_191 rfl cp_X1_148 ar_46 ar_29 ⟨by decide, _, _, _, rfl, rfl⟩ (hT.ks.l46 (by omega)) (hT.ks.l29 (by omega)) (by decide) (by omega) (xst (Nat.le_of_ble_eq_true rfl)) ⟨by omega, by omega, by omega⟩ (by rw [(hT.ks.n46 (by omega))]; omega) (by rw [(hT.ks.n29 (by omega))]; omega) (fun k_ j_ h_ _ => hT.ks.l7 (hKa.rf.me.row (show xu R 0 0 19 (some p) 46 p k_ = some j_ by rw [← hR1]; exact h_))) ?_
                          refine k_nmC (v := v) (C1 := xur R1 29 0 (va_cpy (R1 46 p) (R1 29 0) 0 0 8)) (kR_xur (c := 29) rfl) fun R2 hR2 => ?_
                          refine x_aload_n 195 dX1_perform_194 rfl rfl ?_
                          refine x_iconst (v := -1) 196 dX1_perform_195 rfl rfl ?_
                          refine x_puti 199 dX1_perform_196 rfl fl_X1_67 rfl rfl (hT.ks.l0 (by omega)) ?_
                          refine k_nmA (v := v) (kI_xu (c := 0) rfl) fun I2 hI2 => ?_
                          have ew : kWho I p false = 16 := by unfold kWho; rw [cif_f (fun h => h.elim c158 (fun g => by cases g))]
                          have e3 : kS3 I R th p (kWho I p false) = (I2, R2, th) := by rw [ew]; unfold kS3; rw [hI2, hI1, hR2, hR1]
                          have hK3 : KI (I2, R2, th) x.N mm := by rw [← e3]; exact hKa.s3
                          have hme3 : R2 0 0 19 = some p := by have := kS3_me (A := I) (C := R) (th := th) (p := p) (w := kWho I p false); rw [e3] at this; exact this
                          rw [e3] at hq
                          dsimp only at hq
                          refine x_aload_n 200 dX1_perform_199 rfl rfl ?_
                          refine x_iload_n 201 dX1_perform_200 rfl rfl ?_
                          refine x_iload_n 202 dX1_perform_201 rfl rfl ?_
                          refine x_iload 204 dX1_perform_202 rfl rfl ?_
                          refine x_iload 206 dX1_perform_204 rfl rfl ?_
                          obtain ⟨r_, hd_⟩ : ∃ r : kQ, r = kDoSeek x.N (I2, R2, th) p d vb := ⟨_, rfl⟩
                          rw [← hd_] at hq
                          unfold kPf1 at hq
                          refine x_callVH (as := [.int 4, .int (nI d), .int vb, .int (nI ((iN (I 0 0 12))))]) (rest := []) (i := 0) (n' := n - 1) 209 dX1_perform_206 rfl mv_X1_506 rfl rfl (hT.ks.l0 (by omega)) (hd_perform (by omega) (by omega)) (by omega) (xst (Nat.le_of_ble_eq_true rfl)) (c_X1_run_4 hT hK3 (by omega) (by omega) hme3 hp16 (by omega) (kOsN hd_ ⟨fun h99 => ?_, ⟨?_, ?_⟩⟩))
                          · skip
                            rw [if_pos h99] at hq
                            exact hq.1 h99
                          · skip
                            intro hz w1 hU1
                            change X _ _ _ _ _ _ _ _ _ _
                            rw [if_neg (by rw [hz]; decide)] at hq
                            obtain ⟨hok, hq⟩ := hq.as
                            rw [if_pos hz] at hq
                            refine x_fgt [(1, .ref (x.ad 0 0)), xo, xo, xo, xo, xo, xo, xo, xo] ⟨Or.inr rfl, Or.inl rfl, Or.inl rfl, Or.inl rfl, Or.inl rfl, Or.inl rfl, Or.inl rfl, Or.inl rfl, Or.inl rfl, trivial⟩ ?_
                            exact s209_pf (D := D) (Lg := Lg) hU1 hp16 hok (by omega) hq
                          · skip
                            intro hz w1 hU1
                            by_cases h9 : r_.1.1 = 99
                            · rw [if_pos h9] at hq; exact absurd h9 hq.1
                            · rw [if_neg h9] at hq
                              obtain ⟨hok, hq⟩ := hq.as
                              rw [if_neg hz] at hq
                              refine ⟨0, rfl, hU1.ks.l3 (by omega), ?_⟩
                              refine x_fgt [(1, .ref (x.ad 0 0)), xo, xo, xo, xo, xo, xo, xo, xo] ⟨Or.inr rfl, Or.inl rfl, Or.inl rfl, Or.inl rfl, Or.inl rfl, Or.inl rfl, Or.inl rfl, Or.inl rfl, Or.inl rfl, trivial⟩ ?_
                              exact s231_pf hU1 hp16 hok (by omega) hq
                        · skip
                          exfalso; revert c164; decide
                    · skip
                      refine x_iload_n 136 dX1_perform_135 rfl rfl ?_
                      refine x_bipush (v := 22) 138 dX1_perform_136 rfl rfl ?_
                      refine x_icmp_eq 150 141 dX1_perform_138 (by decide) rfl (fun c138 => ?_) (fun c138 => ?_)
                      · skip
                        exfalso; revert c138; decide
                      · skip
                        refine x_iload_n 142 dX1_perform_141 rfl rfl ?_
                        refine x_bipush (v := 23) 144 dX1_perform_142 rfl rfl ?_
                        refine x_icmp_eq 150 147 dX1_perform_144 (by decide) rfl (fun c144 => ?_) (fun c144 => ?_)
                        · skip
                          exfalso; revert c144; decide
                        · skip
                          refine x_bipush (v := -5) 149 dX1_perform_147 rfl rfl ?_
                          refine x_ireturn dX1_perform_149 rfl ?_
                          rw [if_pos ⟨rfl, c132⟩] at hq
                          rw [hR1]
                          exact hq.ret3 hT
                  · skip
                    refine x_aload_n 115 dX1_perform_114 rfl rfl ?_
                    refine x_gets 118 dX1_perform_115 rfl fl_X1_371 (hT.ks.l0 (by omega)) (show R1 0 0 19 = some p by rw [hR1]; exact xu_eq) ?_
                    refine x_iconst (v := 0) 119 dX1_perform_118 rfl rfl ?_
                    refine x_puti 122 dX1_perform_119 rfl fl_X1_357 rfl rfl (hT.ks.l9 (by omega)) ?_
                    refine k_nmA (v := v) (kI_xu (c := 9) rfl) fun I1 hI1 => ?_
                    refine x_bipush (v := -9) 124 dX1_perform_122 rfl rfl ?_
                    refine x_ireturn dX1_perform_124 rfl ?_
                    rw [if_neg c111] at hq
                    rw [hI1, hR1]
                    exact hq.ret3 hT
                · skip
                  have c89 : ¬ ((0 ≤ va ∧ va ≤ 7) ∧ (0 ≤ vb ∧ vb ≤ 8192)) := b2i_0.mp c89
                  refine x_iconst (v := -1) 93 dX1_perform_92 rfl rfl ?_
                  refine x_ireturn dX1_perform_93 rfl ?_
                  exact hbad c50 (fun h => c89 h.2) _ pF2.rfl
          · skip
            refine x_bipush (v := -14) 55 dX1_perform_53 rfl rfl ?_
            refine x_ireturn dX1_perform_55 rfl ?_
            exact hdn (by exact c50)
        · skip
          exfalso; revert c35; decide
      · skip
        have c23 : (8 : Int32) ≤ (4 : Int32) ∧ (4 : Int32) ≤ (15 : Int32) := b2i_n0.mp c23
        exact absurd c23 (by decide)
set_option maxHeartbeats 400000 in
set_option maxRecDepth 100000 in
theorem c_X1_perform_5 {G : xG} {n : Nat} {Q : Outcome → xS → Prop} {x : kX} {I : xI} {R : xR} {v : kV} {th : List xTh} {mm : Nat} (hT : KT x v th) (hK : KI (I, R, th) x.N mm) {D Lg : Nat} {pp va vb : Int32} (hmm : mm + 300 < 16384) (hn : 18 ≤ n) (hdn : ¬ I 5 0 7 = 0 → Q (.returned (some (.int (-14)))) (kS I R x v)) (hbad : I 5 0 7 = 0 → (¬ (kLv I pp ∧ ((0 ≤ va ∧ va ≤ 7) ∧ (0 ≤ vb ∧ vb ≤ 8192)))) → ∀ A', pF2 I A' → Q (.returned (some (.int (-1)))) (kS A' R x v)) (hgo : I 5 0 7 = 0 → kLv I pp → ((0 ≤ va ∧ va ≤ 7) ∧ (0 ≤ vb ∧ vb ≤ 8192)) → ∀ A', A' = I → kOs Q x (kMid x.N x.B D Lg (iN pp) true (kWho A' (iN pp) false) A' R th (fun s => kDoCut x.N s (iN pp) (iN va) (iN vb)))) : xCall G mX1_perform n [.ref (x.ad 0 0), .int pp, .int 5, .int va, .int vb] (kS I R x v) Q := by
  refine x_met (L0 := [(1, .ref (x.ad 0 0)), (1, .int pp), (1, .int 5), (1, .int va), (1, .int vb), xo, xo, xo, xo]) (by decide +kernel) rfl ⟨Nat.le_of_ble_eq_true rfl, rfl⟩ ?_
  have hnb := hT.ks.nb
  have hsz2 := hK.wf.sz.2
  refine x_aload_n 1 dX1_perform_0 rfl rfl ?_
  refine x_geti 4 dX1_perform_1 rfl fl_X1_219 (hT.ks.l0 (by omega)) ?_
  refine x_vi (w := I 0 0 12) rfl ?_
  refine x_vi (w := nI ((iN (I 0 0 12)))) hK.wf.sz.1 ?_
  refine x_istore 6 [(1, .ref (x.ad 0 0)), (1, .int pp), (1, .int 5), (1, .int va), (1, .int vb), (1, .int (nI ((iN (I 0 0 12))))), xo, xo, xo] dX1_perform_4 rfl (by decide) rfl ?_
  refine x_iload_n 7 dX1_perform_6 rfl rfl ?_
  refine x_if_eq 26 10 dX1_perform_7 (by decide) rfl (fun c7 => ?_) (fun c7 => ?_)
  · skip
    exfalso; revert c7; decide
  · skip
    refine x_iload_n 11 dX1_perform_10 rfl rfl ?_
    refine x_iconst (v := 3) 12 dX1_perform_11 rfl rfl ?_
    refine x_icmp_eq 26 15 dX1_perform_12 (by decide) rfl (fun c12 => ?_) (fun c12 => ?_)
    · skip
      exfalso; revert c12; decide
    · skip
      refine x_iload_n 16 dX1_perform_15 rfl rfl ?_
      refine x_bipush (v := 8) 18 dX1_perform_16 rfl rfl ?_
      refine x_bipush (v := 15) 20 dX1_perform_18 rfl rfl ?_
      refine x_callS (as := [.int 5, .int 8, .int 15]) (rest := []) (n' := n - 1) 23 dX1_perform_20 rfl ms_X1_211 rfl rfl (nh_perform (by omega)) (by omega) (xst (Nat.le_of_ble_eq_true rfl)) (c_X1_isIn (by omega) ?_)
      change X _ _ _ _ _ _ _ _ _ _
      refine x_vi (w := b2i ((8 : Int32) ≤ (5 : Int32) ∧ (5 : Int32) ≤ (15 : Int32))) rfl ?_
      refine x_if_eq 30 26 dX1_perform_23 (by decide) rfl (fun c23 => ?_) (fun c23 => ?_)
      · skip
        have c23 : ¬ ((8 : Int32) ≤ (5 : Int32) ∧ (5 : Int32) ≤ (15 : Int32)) := b2i_0.mp c23
        refine x_iconst (v := 0) 31 dX1_perform_30 rfl rfl ?_
        refine x_istore 33 [(1, .ref (x.ad 0 0)), (1, .int pp), (1, .int 5), (1, .int va), (1, .int vb), (1, .int (nI ((iN (I 0 0 12))))), (1, .int 0), xo, xo] dX1_perform_31 rfl (by decide) rfl ?_
        refine x_iload 35 dX1_perform_33 rfl rfl ?_
        refine x_if_eq 43 38 dX1_perform_35 (by decide) rfl (fun c35 => ?_) (fun c35 => ?_)
        · skip
          refine x_aload_n 44 dX1_perform_43 rfl rfl ?_
          refine x_getz 47 dX1_perform_44 rfl fl_X1_92 (hT.ks.l0 (by omega)) (hT.ks.z0_0 (by omega)) ?_
          refine x_geti 50 dX1_perform_47 rfl fl_X1_160 (hT.ks.l5 (by omega)) ?_
          refine x_vi (w := I 5 0 7) rfl ?_
          refine x_if_eq 56 53 dX1_perform_50 (by decide) rfl (fun c50 => ?_) (fun c50 => ?_)
          · skip
            refine x_iload_n 57 dX1_perform_56 rfl rfl ?_
            refine x_iconst (v := 0) 58 dX1_perform_57 rfl rfl ?_
            refine x_bipush (v := 15) 60 dX1_perform_58 rfl rfl ?_
            refine x_callS (as := [.int pp, .int 0, .int 15]) (rest := []) (n' := n - 1) 63 dX1_perform_60 rfl ms_X1_211 rfl rfl (nh_perform (by omega)) (by omega) (xst (Nat.le_of_ble_eq_true rfl)) (c_X1_isIn (by omega) ?_)
            change X _ _ _ _ _ _ _ _ _ _
            refine x_vi (w := b2i ((0 : Int32) ≤ pp ∧ pp ≤ (15 : Int32))) rfl ?_
            refine x_if_eq 92 66 dX1_perform_63 (by decide) rfl (fun c63 => ?_) (fun c63 => ?_)
            · skip
              have c63 : ¬ ((0 : Int32) ≤ pp ∧ pp ≤ (15 : Int32)) := b2i_0.mp c63
              refine x_iconst (v := -1) 93 dX1_perform_92 rfl rfl ?_
              refine x_ireturn dX1_perform_93 rfl ?_
              exact hbad c50 (fun h => c63 h.1.1) _ pF2.rfl
            · skip
              have c63 : (0 : Int32) ≤ pp ∧ pp ≤ (15 : Int32) := b2i_n0.mp c63
              obtain ⟨p, hp15, rfl⟩ := ppn (m := 15) (by omega) c63
              have hp16 : p < 16 := by omega
              have hpe : iN (nI p) = p := iN_nI (by omega)
              have tpI : I 27 0 = I 27 0 := by rfl
              have he := hK.wf.sz.2
              refine x_aload_n 67 dX1_perform_66 rfl rfl ?_
              refine x_getz 70 dX1_perform_67 rfl fl_X1_39 (hT.ks.l0 (by omega)) (hT.ks.z0_8 (by omega)) ?_
              refine x_iload_n 71 dX1_perform_70 rfl rfl ?_
              refine x_aldz 72 dX1_perform_71 rfl ar_26 rfl (hT.ks.l26 (by omega)) (xb (hT.ks.n26 (by omega)) (by omega) (by omega)) (hT.ks.z26 (by omega)) ?_
              refine x_geti 75 dX1_perform_72 rfl fl_X1_208 (hT.ks.l9 (by omega)) ?_
              refine x_vi (w := I 9 p 1) rfl ?_
              refine x_iconst (v := 1) 76 dX1_perform_75 rfl rfl ?_
              refine x_icmp_ne 92 79 dX1_perform_76 (by decide) rfl (fun c76 => ?_) (fun c76 => ?_)
              · skip
                refine x_iconst (v := -1) 93 dX1_perform_92 rfl rfl ?_
                refine x_ireturn dX1_perform_93 rfl ?_
                exact hbad c50 (fun h => c76 (by have := h.1.2; rw [iN_nI (by omega)] at this; exact this)) _ pF2.rfl
              · skip
                refine x_aload_n 80 dX1_perform_79 rfl rfl ?_
                refine x_iload_n 81 dX1_perform_80 rfl rfl ?_
                refine x_iload_n 82 dX1_perform_81 rfl rfl ?_
                refine x_iload 84 dX1_perform_82 rfl rfl ?_
                refine x_iload 86 dX1_perform_84 rfl rfl ?_
                refine x_callV (as := [.int 5, .int va, .int vb, .int (nI ((iN (I 0 0 12))))]) (rest := []) (i := 0) (n' := n - 1) 89 dX1_perform_86 rfl mv_X1_499 rfl rfl (hT.ks.l0 (by omega)) (nh_perform (by omega)) (by omega) (xst (Nat.le_of_ble_eq_true rfl)) (c_X1_isGood_5 (I := kI I v.t) (va := va) (vb := vb) (e := (iN (I 0 0 12))) hT.ks (by omega) (by omega) ?_)
                change X _ _ _ _ _ _ _ _ _ _
                refine x_vi (w := b2i ((0 ≤ va ∧ va ≤ 7) ∧ (0 ≤ vb ∧ vb ≤ 8192))) rfl ?_
                refine x_if_ne 94 92 dX1_perform_89 (by decide) rfl (fun c89 => ?_) (fun c89 => ?_)
                · skip
                  have c89 : (0 ≤ va ∧ va ≤ 7) ∧ (0 ≤ vb ∧ vb ≤ 8192) := b2i_n0.mp c89
                  have hq := hgo c50 ⟨c63, by rw [hpe]; exact c76⟩ c89 _ rfl
                  rw [hpe] at hq
                  unfold kMid at hq
                  have hKa : KI (I, R, th) x.N mm := hK
                  obtain ⟨d, hd7, rfl⟩ := ppn (m := 7) (by omega) c89.1
                  have ed : iN (nI d) = d := iN_nI (by omega)
                  obtain ⟨m, hm7, rfl⟩ := ppn (m := 8192) (by omega) c89.2
                  have em : iN (nI m) = m := iN_nI (by omega)
                  rw [ed, em] at hq
                  refine x_aload_n 95 dX1_perform_94 rfl rfl ?_
                  refine x_aload_n 96 dX1_perform_95 rfl rfl ?_
                  refine x_getz 99 dX1_perform_96 rfl fl_X1_39 (hT.ks.l0 (by omega)) (hT.ks.z0_8 (by omega)) ?_
                  refine x_iload_n 100 dX1_perform_99 rfl rfl ?_
                  refine x_aldz 101 dX1_perform_100 rfl ar_26 rfl (hT.ks.l26 (by omega)) (xb (hT.ks.n26 (by omega)) (by omega) (by omega)) (hT.ks.z26 (by omega)) ?_
                  refine x_asR ?_
                  refine x_putr 104 dX1_perform_101 rfl fl_X1_371 (Or.inl ⟨_, rfl⟩) (hT.ks.l0 (by omega)) (fun _ h => by cases h; exact (hT.ks.l9 (by omega))) ?_
                  refine k_nmC (v := v) (kR_xu (c := 0) rfl) fun R1 hR1 => ?_
                  refine x_aload_n 105 dX1_perform_104 rfl rfl ?_
                  refine x_gets 108 dX1_perform_105 rfl fl_X1_371 (hT.ks.l0 (by omega)) (show R1 0 0 19 = some p by rw [hR1]; exact xu_eq) ?_
                  refine x_geti 111 dX1_perform_108 rfl fl_X1_357 (hT.ks.l9 (by omega)) ?_
                  refine x_vi (w := I 9 p 10) rfl ?_
                  refine x_if_eq 125 114 dX1_perform_111 (by decide) rfl (fun c111 => ?_) (fun c111 => ?_)
                  · skip
                    rw [if_pos c111] at hq
                    refine x_aload_n 126 dX1_perform_125 rfl rfl ?_
                    refine x_gets 129 dX1_perform_126 rfl fl_X1_371 (hT.ks.l0 (by omega)) (show R1 0 0 19 = some p by rw [hR1]; exact xu_eq) ?_
                    refine x_geti 132 dX1_perform_129 rfl fl_X1_503 (hT.ks.l9 (by omega)) ?_
                    refine x_vi (w := I 9 p 11) rfl ?_
                    refine x_if_eq 150 135 dX1_perform_132 (by decide) rfl (fun c132 => ?_) (fun c132 => ?_)
                    · skip
                      rw [if_neg (fun h => h.2 c132)] at hq
                      refine x_aload_n 151 dX1_perform_150 rfl rfl ?_
                      refine x_aload_n 152 dX1_perform_151 rfl rfl ?_
                      refine x_gets 155 dX1_perform_152 rfl fl_X1_371 (hT.ks.l0 (by omega)) (show R1 0 0 19 = some p by rw [hR1]; exact xu_eq) ?_
                      refine x_callV (as := []) (rest := [.ref (x.ad 0 0)]) (i := p) (n' := n - 1) 158 dX1_perform_155 rfl mv_X1_231 rfl rfl (hT.ks.l9 (by omega)) (nh_perform (by omega)) (by omega) (xst (Nat.le_of_ble_eq_true rfl)) (c_X10_hasGroup hT.ks (by omega) (by omega) ?_)
                      change X _ _ _ _ _ _ _ _ _ _
                      refine x_vi (w := b2i (pGrp I p)) rfl ?_
                      refine x_if_ne 167 161 dX1_perform_158 (by decide) rfl (fun c158 => ?_) (fun c158 => ?_)
                      · skip
                        have c158 : pGrp I p := b2i_n0.mp c158
                        refine x_iload_n 168 dX1_perform_167 rfl rfl ?_
                        refine x_goto 173 dX1_perform_168 (by decide) ?_
                        refine x_puti 176 dX1_perform_173 rfl fl_X1_291 rfl rfl (hT.ks.l0 (by omega)) ?_
                        refine k_nmA (v := v) (kI_xu (c := 0) rfl) fun I1 hI1 => ?_
                        refine x_aload_n 177 dX1_perform_176 rfl rfl ?_
                        refine x_gets 180 dX1_perform_177 rfl fl_X1_371 (hT.ks.l0 (by omega)) (show R1 0 0 19 = some p by rw [hR1]; exact xu_eq) ?_
                        refine x_getz 183 dX1_perform_180 rfl fl_X1_246 (hT.ks.l9 (by omega)) (hT.ks.z9_4 (by omega)) ?_
                        refine x_iconst (v := 0) 184 dX1_perform_183 rfl rfl ?_
                        refine x_aload_n 185 dX1_perform_184 rfl rfl ?_
                        refine x_getz 188 dX1_perform_185 rfl fl_X1_64 (hT.ks.l0 (by omega)) (hT.ks.z0_20 (by omega)) ?_
                        refine x_iconst (v := 0) 189 dX1_perform_188 rfl rfl ?_
                        refine x_bipush (v := 8) 191 dX1_perform_189 rfl rfl ?_
                        refine x_copyr (sp := 0) (dp := 0) (m := 8) 194 dX1_perform_191 rfl cp_X1_148 ar_46 ar_29 ⟨by decide, _, _, _, rfl, rfl⟩ (hT.ks.l46 (by omega)) (hT.ks.l29 (by omega)) (by decide) (by omega) (xst (Nat.le_of_ble_eq_true rfl)) ⟨by omega, by omega, by omega⟩ (by rw [(hT.ks.n46 (by omega))]; omega) (by rw [(hT.ks.n29 (by omega))]; omega) (fun k_ j_ h_ _ => hT.ks.l7 (hKa.rf.me.row (show xu R 0 0 19 (some p) 46 p k_ = some j_ by rw [← hR1]; exact h_))) ?_
                        refine k_nmC (v := v) (C1 := xur R1 29 0 (va_cpy (R1 46 p) (R1 29 0) 0 0 8)) (kR_xur (c := 29) rfl) fun R2 hR2 => ?_
                        refine x_aload_n 195 dX1_perform_194 rfl rfl ?_
                        refine x_iconst (v := -1) 196 dX1_perform_195 rfl rfl ?_
                        refine x_puti 199 dX1_perform_196 rfl fl_X1_67 rfl rfl (hT.ks.l0 (by omega)) ?_
                        refine k_nmA (v := v) (kI_xu (c := 0) rfl) fun I2 hI2 => ?_
                        have ew : kWho I p false = nI p := by unfold kWho; rw [cif_t (Or.inl c158)]
                        have e3 : kS3 I R th p (kWho I p false) = (I2, R2, th) := by rw [ew]; unfold kS3; rw [hI2, hI1, hR2, hR1]
                        have hK3 : KI (I2, R2, th) x.N mm := by rw [← e3]; exact hKa.s3
                        have hme3 : R2 0 0 19 = some p := by have := kS3_me (A := I) (C := R) (th := th) (p := p) (w := kWho I p false); rw [e3] at this; exact this
                        rw [e3] at hq
                        dsimp only at hq
                        refine x_aload_n 200 dX1_perform_199 rfl rfl ?_
                        refine x_iload_n 201 dX1_perform_200 rfl rfl ?_
                        refine x_iload_n 202 dX1_perform_201 rfl rfl ?_
                        refine x_iload 204 dX1_perform_202 rfl rfl ?_
                        refine x_iload 206 dX1_perform_204 rfl rfl ?_
                        obtain ⟨r_, hd_⟩ : ∃ r : kQ, r = kDoCut x.N (I2, R2, th) p d m := ⟨_, rfl⟩
                        rw [← hd_] at hq
                        unfold kPf1 at hq
                        refine x_callVH (as := [.int 5, .int (nI d), .int (nI m), .int (nI ((iN (I 0 0 12))))]) (rest := []) (i := 0) (n' := n - 1) 209 dX1_perform_206 rfl mv_X1_506 rfl rfl (hT.ks.l0 (by omega)) (hd_perform (by omega) (by omega)) (by omega) (xst (Nat.le_of_ble_eq_true rfl)) (c_X1_run_5 hT hK3 (by omega) (by omega) (by omega) hme3 hp16 (by omega) (kOsN hd_ ⟨fun h99 => ?_, ⟨?_, ?_⟩⟩))
                        · skip
                          rw [if_pos h99] at hq
                          exact hq.1 h99
                        · skip
                          intro hz w1 hU1
                          change X _ _ _ _ _ _ _ _ _ _
                          rw [if_neg (by rw [hz]; decide)] at hq
                          obtain ⟨hok, hq⟩ := hq.as
                          rw [if_pos hz] at hq
                          refine x_fgt [(1, .ref (x.ad 0 0)), xo, xo, xo, xo, xo, xo, xo, xo] ⟨Or.inr rfl, Or.inl rfl, Or.inl rfl, Or.inl rfl, Or.inl rfl, Or.inl rfl, Or.inl rfl, Or.inl rfl, Or.inl rfl, trivial⟩ ?_
                          exact s209_pf (D := D) (Lg := Lg) hU1 hp16 hok (by omega) hq
                        · skip
                          intro hz w1 hU1
                          by_cases h9 : r_.1.1 = 99
                          · rw [if_pos h9] at hq; exact absurd h9 hq.1
                          · rw [if_neg h9] at hq
                            obtain ⟨hok, hq⟩ := hq.as
                            rw [if_neg hz] at hq
                            refine ⟨0, rfl, hU1.ks.l3 (by omega), ?_⟩
                            refine x_fgt [(1, .ref (x.ad 0 0)), xo, xo, xo, xo, xo, xo, xo, xo] ⟨Or.inr rfl, Or.inl rfl, Or.inl rfl, Or.inl rfl, Or.inl rfl, Or.inl rfl, Or.inl rfl, Or.inl rfl, Or.inl rfl, trivial⟩ ?_
                            exact s231_pf hU1 hp16 hok (by omega) hq
                      · skip
                        have c158 : ¬ (pGrp I p) := b2i_0.mp c158
                        refine x_iload_n 162 dX1_perform_161 rfl rfl ?_
                        refine x_bipush (v := 21) 164 dX1_perform_162 rfl rfl ?_
                        refine x_icmp_ne 171 167 dX1_perform_164 (by decide) rfl (fun c164 => ?_) (fun c164 => ?_)
                        · skip
                          refine x_bipush (v := 16) 173 dX1_perform_171 rfl rfl ?_
                          refine x_puti 176 dX1_perform_173 rfl fl_X1_291 rfl rfl (hT.ks.l0 (by omega)) ?_
                          refine k_nmA (v := v) (kI_xu (c := 0) rfl) fun I1 hI1 => ?_
                          refine x_aload_n 177 dX1_perform_176 rfl rfl ?_
                          refine x_gets 180 dX1_perform_177 rfl fl_X1_371 (hT.ks.l0 (by omega)) (show R1 0 0 19 = some p by rw [hR1]; exact xu_eq) ?_
                          refine x_getz 183 dX1_perform_180 rfl fl_X1_246 (hT.ks.l9 (by omega)) (hT.ks.z9_4 (by omega)) ?_
                          refine x_iconst (v := 0) 184 dX1_perform_183 rfl rfl ?_
                          refine x_aload_n 185 dX1_perform_184 rfl rfl ?_
                          refine x_getz 188 dX1_perform_185 rfl fl_X1_64 (hT.ks.l0 (by omega)) (hT.ks.z0_20 (by omega)) ?_
                          refine x_iconst (v := 0) 189 dX1_perform_188 rfl rfl ?_
                          refine x_bipush (v := 8) 191 dX1_perform_189 rfl rfl ?_
                          refine x_copyr (sp := 0) (dp := 0) (m := 8) 194 dX1_perform_191 rfl cp_X1_148 ar_46 ar_29 ⟨by decide, _, _, _, rfl, rfl⟩ (hT.ks.l46 (by omega)) (hT.ks.l29 (by omega)) (by decide) (by omega) (xst (Nat.le_of_ble_eq_true rfl)) ⟨by omega, by omega, by omega⟩ (by rw [(hT.ks.n46 (by omega))]; omega) (by rw [(hT.ks.n29 (by omega))]; omega) (fun k_ j_ h_ _ => hT.ks.l7 (hKa.rf.me.row (show xu R 0 0 19 (some p) 46 p k_ = some j_ by rw [← hR1]; exact h_))) ?_
                          refine k_nmC (v := v) (C1 := xur R1 29 0 (va_cpy (R1 46 p) (R1 29 0) 0 0 8)) (kR_xur (c := 29) rfl) fun R2 hR2 => ?_
                          refine x_aload_n 195 dX1_perform_194 rfl rfl ?_
                          refine x_iconst (v := -1) 196 dX1_perform_195 rfl rfl ?_
                          refine x_puti 199 dX1_perform_196 rfl fl_X1_67 rfl rfl (hT.ks.l0 (by omega)) ?_
                          refine k_nmA (v := v) (kI_xu (c := 0) rfl) fun I2 hI2 => ?_
                          have ew : kWho I p false = 16 := by unfold kWho; rw [cif_f (fun h => h.elim c158 (fun g => by cases g))]
                          have e3 : kS3 I R th p (kWho I p false) = (I2, R2, th) := by rw [ew]; unfold kS3; rw [hI2, hI1, hR2, hR1]
                          have hK3 : KI (I2, R2, th) x.N mm := by rw [← e3]; exact hKa.s3
                          have hme3 : R2 0 0 19 = some p := by have := kS3_me (A := I) (C := R) (th := th) (p := p) (w := kWho I p false); rw [e3] at this; exact this
                          rw [e3] at hq
                          dsimp only at hq
                          refine x_aload_n 200 dX1_perform_199 rfl rfl ?_
                          refine x_iload_n 201 dX1_perform_200 rfl rfl ?_
                          refine x_iload_n 202 dX1_perform_201 rfl rfl ?_
                          refine x_iload 204 dX1_perform_202 rfl rfl ?_
                          refine x_iload 206 dX1_perform_204 rfl rfl ?_
                          obtain ⟨r_, hd_⟩ : ∃ r : kQ, r = kDoCut x.N (I2, R2, th) p d m := ⟨_, rfl⟩
                          rw [← hd_] at hq
                          unfold kPf1 at hq
                          refine x_callVH (as := [.int 5, .int (nI d), .int (nI m), .int (nI ((iN (I 0 0 12))))]) (rest := []) (i := 0) (n' := n - 1) 209 dX1_perform_206 rfl mv_X1_506 rfl rfl (hT.ks.l0 (by omega)) (hd_perform (by omega) (by omega)) (by omega) (xst (Nat.le_of_ble_eq_true rfl)) (c_X1_run_5 hT hK3 (by omega) (by omega) (by omega) hme3 hp16 (by omega) (kOsN hd_ ⟨fun h99 => ?_, ⟨?_, ?_⟩⟩))
                          · skip
                            rw [if_pos h99] at hq
                            exact hq.1 h99
                          · skip
                            intro hz w1 hU1
                            change X _ _ _ _ _ _ _ _ _ _
                            rw [if_neg (by rw [hz]; decide)] at hq
                            obtain ⟨hok, hq⟩ := hq.as
                            rw [if_pos hz] at hq
                            refine x_fgt [(1, .ref (x.ad 0 0)), xo, xo, xo, xo, xo, xo, xo, xo] ⟨Or.inr rfl, Or.inl rfl, Or.inl rfl, Or.inl rfl, Or.inl rfl, Or.inl rfl, Or.inl rfl, Or.inl rfl, Or.inl rfl, trivial⟩ ?_
                            exact s209_pf (D := D) (Lg := Lg) hU1 hp16 hok (by omega) hq
                          · skip
                            intro hz w1 hU1
                            by_cases h9 : r_.1.1 = 99
                            · rw [if_pos h9] at hq; exact absurd h9 hq.1
                            · rw [if_neg h9] at hq
                              obtain ⟨hok, hq⟩ := hq.as
                              rw [if_neg hz] at hq
                              refine ⟨0, rfl, hU1.ks.l3 (by omega), ?_⟩
                              refine x_fgt [(1, .ref (x.ad 0 0)), xo, xo, xo, xo, xo, xo, xo, xo] ⟨Or.inr rfl, Or.inl rfl, Or.inl rfl, Or.inl rfl, Or.inl rfl, Or.inl rfl, Or.inl rfl, Or.inl rfl, Or.inl rfl, trivial⟩ ?_
                              exact s231_pf hU1 hp16 hok (by omega) hq
                        · skip
                          exfalso; revert c164; decide
                    · skip
                      refine x_iload_n 136 dX1_perform_135 rfl rfl ?_
                      refine x_bipush (v := 22) 138 dX1_perform_136 rfl rfl ?_
                      refine x_icmp_eq 150 141 dX1_perform_138 (by decide) rfl (fun c138 => ?_) (fun c138 => ?_)
                      · skip
                        exfalso; revert c138; decide
                      · skip
                        refine x_iload_n 142 dX1_perform_141 rfl rfl ?_
                        refine x_bipush (v := 23) 144 dX1_perform_142 rfl rfl ?_
                        refine x_icmp_eq 150 147 dX1_perform_144 (by decide) rfl (fun c144 => ?_) (fun c144 => ?_)
                        · skip
                          exfalso; revert c144; decide
                        · skip
                          refine x_bipush (v := -5) 149 dX1_perform_147 rfl rfl ?_
                          refine x_ireturn dX1_perform_149 rfl ?_
                          rw [if_pos ⟨rfl, c132⟩] at hq
                          rw [hR1]
                          exact hq.ret3 hT
                  · skip
                    refine x_aload_n 115 dX1_perform_114 rfl rfl ?_
                    refine x_gets 118 dX1_perform_115 rfl fl_X1_371 (hT.ks.l0 (by omega)) (show R1 0 0 19 = some p by rw [hR1]; exact xu_eq) ?_
                    refine x_iconst (v := 0) 119 dX1_perform_118 rfl rfl ?_
                    refine x_puti 122 dX1_perform_119 rfl fl_X1_357 rfl rfl (hT.ks.l9 (by omega)) ?_
                    refine k_nmA (v := v) (kI_xu (c := 9) rfl) fun I1 hI1 => ?_
                    refine x_bipush (v := -9) 124 dX1_perform_122 rfl rfl ?_
                    refine x_ireturn dX1_perform_124 rfl ?_
                    rw [if_neg c111] at hq
                    rw [hI1, hR1]
                    exact hq.ret3 hT
                · skip
                  have c89 : ¬ ((0 ≤ va ∧ va ≤ 7) ∧ (0 ≤ vb ∧ vb ≤ 8192)) := b2i_0.mp c89
                  refine x_iconst (v := -1) 93 dX1_perform_92 rfl rfl ?_
                  refine x_ireturn dX1_perform_93 rfl ?_
                  exact hbad c50 (fun h => c89 h.2) _ pF2.rfl
          · skip
            refine x_bipush (v := -14) 55 dX1_perform_53 rfl rfl ?_
            refine x_ireturn dX1_perform_55 rfl ?_
            exact hdn (by exact c50)
        · skip
          exfalso; revert c35; decide
      · skip
        have c23 : (8 : Int32) ≤ (5 : Int32) ∧ (5 : Int32) ≤ (15 : Int32) := b2i_n0.mp c23
        exact absurd c23 (by decide)
set_option maxHeartbeats 400000 in
set_option maxRecDepth 100000 in
theorem c_X1_perform_6 {G : xG} {n : Nat} {Q : Outcome → xS → Prop} {x : kX} {I : xI} {R : xR} {v : kV} {th : List xTh} {mm : Nat} (hT : KT x v th) (hK : KI (I, R, th) x.N mm) {D Lg : Nat} {pp va vb : Int32} (hmm : mm + 300 < 16384) (hn : 18 ≤ n) (hdn : ¬ I 5 0 7 = 0 → Q (.returned (some (.int (-14)))) (kS I R x v)) (hbad : I 5 0 7 = 0 → (¬ (kLv I pp ∧ (0 ≤ va ∧ va ≤ 7))) → ∀ A', pF2 I A' → Q (.returned (some (.int (-1)))) (kS A' R x v)) (hgo : I 5 0 7 = 0 → kLv I pp → (0 ≤ va ∧ va ≤ 7) → ∀ A', A' = I → kOs Q x (kMid x.N x.B D Lg (iN pp) true (kWho A' (iN pp) false) A' R th (fun s => kTwin s (iN pp) (iN va)))) : xCall G mX1_perform n [.ref (x.ad 0 0), .int pp, .int 6, .int va, .int vb] (kS I R x v) Q := by
  refine x_met (L0 := [(1, .ref (x.ad 0 0)), (1, .int pp), (1, .int 6), (1, .int va), (1, .int vb), xo, xo, xo, xo]) (by decide +kernel) rfl ⟨Nat.le_of_ble_eq_true rfl, rfl⟩ ?_
  have hnb := hT.ks.nb
  have hsz2 := hK.wf.sz.2
  refine x_aload_n 1 dX1_perform_0 rfl rfl ?_
  refine x_geti 4 dX1_perform_1 rfl fl_X1_219 (hT.ks.l0 (by omega)) ?_
  refine x_vi (w := I 0 0 12) rfl ?_
  refine x_vi (w := nI ((iN (I 0 0 12)))) hK.wf.sz.1 ?_
  refine x_istore 6 [(1, .ref (x.ad 0 0)), (1, .int pp), (1, .int 6), (1, .int va), (1, .int vb), (1, .int (nI ((iN (I 0 0 12))))), xo, xo, xo] dX1_perform_4 rfl (by decide) rfl ?_
  refine x_iload_n 7 dX1_perform_6 rfl rfl ?_
  refine x_if_eq 26 10 dX1_perform_7 (by decide) rfl (fun c7 => ?_) (fun c7 => ?_)
  · skip
    exfalso; revert c7; decide
  · skip
    refine x_iload_n 11 dX1_perform_10 rfl rfl ?_
    refine x_iconst (v := 3) 12 dX1_perform_11 rfl rfl ?_
    refine x_icmp_eq 26 15 dX1_perform_12 (by decide) rfl (fun c12 => ?_) (fun c12 => ?_)
    · skip
      exfalso; revert c12; decide
    · skip
      refine x_iload_n 16 dX1_perform_15 rfl rfl ?_
      refine x_bipush (v := 8) 18 dX1_perform_16 rfl rfl ?_
      refine x_bipush (v := 15) 20 dX1_perform_18 rfl rfl ?_
      refine x_callS (as := [.int 6, .int 8, .int 15]) (rest := []) (n' := n - 1) 23 dX1_perform_20 rfl ms_X1_211 rfl rfl (nh_perform (by omega)) (by omega) (xst (Nat.le_of_ble_eq_true rfl)) (c_X1_isIn (by omega) ?_)
      change X _ _ _ _ _ _ _ _ _ _
      refine x_vi (w := b2i ((8 : Int32) ≤ (6 : Int32) ∧ (6 : Int32) ≤ (15 : Int32))) rfl ?_
      refine x_if_eq 30 26 dX1_perform_23 (by decide) rfl (fun c23 => ?_) (fun c23 => ?_)
      · skip
        have c23 : ¬ ((8 : Int32) ≤ (6 : Int32) ∧ (6 : Int32) ≤ (15 : Int32)) := b2i_0.mp c23
        refine x_iconst (v := 0) 31 dX1_perform_30 rfl rfl ?_
        refine x_istore 33 [(1, .ref (x.ad 0 0)), (1, .int pp), (1, .int 6), (1, .int va), (1, .int vb), (1, .int (nI ((iN (I 0 0 12))))), (1, .int 0), xo, xo] dX1_perform_31 rfl (by decide) rfl ?_
        refine x_iload 35 dX1_perform_33 rfl rfl ?_
        refine x_if_eq 43 38 dX1_perform_35 (by decide) rfl (fun c35 => ?_) (fun c35 => ?_)
        · skip
          refine x_aload_n 44 dX1_perform_43 rfl rfl ?_
          refine x_getz 47 dX1_perform_44 rfl fl_X1_92 (hT.ks.l0 (by omega)) (hT.ks.z0_0 (by omega)) ?_
          refine x_geti 50 dX1_perform_47 rfl fl_X1_160 (hT.ks.l5 (by omega)) ?_
          refine x_vi (w := I 5 0 7) rfl ?_
          refine x_if_eq 56 53 dX1_perform_50 (by decide) rfl (fun c50 => ?_) (fun c50 => ?_)
          · skip
            refine x_iload_n 57 dX1_perform_56 rfl rfl ?_
            refine x_iconst (v := 0) 58 dX1_perform_57 rfl rfl ?_
            refine x_bipush (v := 15) 60 dX1_perform_58 rfl rfl ?_
            refine x_callS (as := [.int pp, .int 0, .int 15]) (rest := []) (n' := n - 1) 63 dX1_perform_60 rfl ms_X1_211 rfl rfl (nh_perform (by omega)) (by omega) (xst (Nat.le_of_ble_eq_true rfl)) (c_X1_isIn (by omega) ?_)
            change X _ _ _ _ _ _ _ _ _ _
            refine x_vi (w := b2i ((0 : Int32) ≤ pp ∧ pp ≤ (15 : Int32))) rfl ?_
            refine x_if_eq 92 66 dX1_perform_63 (by decide) rfl (fun c63 => ?_) (fun c63 => ?_)
            · skip
              have c63 : ¬ ((0 : Int32) ≤ pp ∧ pp ≤ (15 : Int32)) := b2i_0.mp c63
              refine x_iconst (v := -1) 93 dX1_perform_92 rfl rfl ?_
              refine x_ireturn dX1_perform_93 rfl ?_
              exact hbad c50 (fun h => c63 h.1.1) _ pF2.rfl
            · skip
              have c63 : (0 : Int32) ≤ pp ∧ pp ≤ (15 : Int32) := b2i_n0.mp c63
              obtain ⟨p, hp15, rfl⟩ := ppn (m := 15) (by omega) c63
              have hp16 : p < 16 := by omega
              have hpe : iN (nI p) = p := iN_nI (by omega)
              have tpI : I 27 0 = I 27 0 := by rfl
              have he := hK.wf.sz.2
              refine x_aload_n 67 dX1_perform_66 rfl rfl ?_
              refine x_getz 70 dX1_perform_67 rfl fl_X1_39 (hT.ks.l0 (by omega)) (hT.ks.z0_8 (by omega)) ?_
              refine x_iload_n 71 dX1_perform_70 rfl rfl ?_
              refine x_aldz 72 dX1_perform_71 rfl ar_26 rfl (hT.ks.l26 (by omega)) (xb (hT.ks.n26 (by omega)) (by omega) (by omega)) (hT.ks.z26 (by omega)) ?_
              refine x_geti 75 dX1_perform_72 rfl fl_X1_208 (hT.ks.l9 (by omega)) ?_
              refine x_vi (w := I 9 p 1) rfl ?_
              refine x_iconst (v := 1) 76 dX1_perform_75 rfl rfl ?_
              refine x_icmp_ne 92 79 dX1_perform_76 (by decide) rfl (fun c76 => ?_) (fun c76 => ?_)
              · skip
                refine x_iconst (v := -1) 93 dX1_perform_92 rfl rfl ?_
                refine x_ireturn dX1_perform_93 rfl ?_
                exact hbad c50 (fun h => c76 (by have := h.1.2; rw [iN_nI (by omega)] at this; exact this)) _ pF2.rfl
              · skip
                refine x_aload_n 80 dX1_perform_79 rfl rfl ?_
                refine x_iload_n 81 dX1_perform_80 rfl rfl ?_
                refine x_iload_n 82 dX1_perform_81 rfl rfl ?_
                refine x_iload 84 dX1_perform_82 rfl rfl ?_
                refine x_iload 86 dX1_perform_84 rfl rfl ?_
                refine x_callV (as := [.int 6, .int va, .int vb, .int (nI ((iN (I 0 0 12))))]) (rest := []) (i := 0) (n' := n - 1) 89 dX1_perform_86 rfl mv_X1_499 rfl rfl (hT.ks.l0 (by omega)) (nh_perform (by omega)) (by omega) (xst (Nat.le_of_ble_eq_true rfl)) (c_X1_isGood_6 (I := kI I v.t) (va := va) (vb := vb) (e := (iN (I 0 0 12))) hT.ks (by omega) (by omega) ?_)
                change X _ _ _ _ _ _ _ _ _ _
                refine x_vi (w := b2i (0 ≤ va ∧ va ≤ 7)) rfl ?_
                refine x_if_ne 94 92 dX1_perform_89 (by decide) rfl (fun c89 => ?_) (fun c89 => ?_)
                · skip
                  have c89 : 0 ≤ va ∧ va ≤ 7 := b2i_n0.mp c89
                  have hq := hgo c50 ⟨c63, by rw [hpe]; exact c76⟩ c89 _ rfl
                  rw [hpe] at hq
                  unfold kMid at hq
                  have hKa : KI (I, R, th) x.N mm := hK
                  obtain ⟨d, hd7, rfl⟩ := ppn (m := 7) (by omega) c89
                  have ed : iN (nI d) = d := iN_nI (by omega)
                  rw [ed] at hq
                  refine x_aload_n 95 dX1_perform_94 rfl rfl ?_
                  refine x_aload_n 96 dX1_perform_95 rfl rfl ?_
                  refine x_getz 99 dX1_perform_96 rfl fl_X1_39 (hT.ks.l0 (by omega)) (hT.ks.z0_8 (by omega)) ?_
                  refine x_iload_n 100 dX1_perform_99 rfl rfl ?_
                  refine x_aldz 101 dX1_perform_100 rfl ar_26 rfl (hT.ks.l26 (by omega)) (xb (hT.ks.n26 (by omega)) (by omega) (by omega)) (hT.ks.z26 (by omega)) ?_
                  refine x_asR ?_
                  refine x_putr 104 dX1_perform_101 rfl fl_X1_371 (Or.inl ⟨_, rfl⟩) (hT.ks.l0 (by omega)) (fun _ h => by cases h; exact (hT.ks.l9 (by omega))) ?_
                  refine k_nmC (v := v) (kR_xu (c := 0) rfl) fun R1 hR1 => ?_
                  refine x_aload_n 105 dX1_perform_104 rfl rfl ?_
                  refine x_gets 108 dX1_perform_105 rfl fl_X1_371 (hT.ks.l0 (by omega)) (show R1 0 0 19 = some p by rw [hR1]; exact xu_eq) ?_
                  refine x_geti 111 dX1_perform_108 rfl fl_X1_357 (hT.ks.l9 (by omega)) ?_
                  refine x_vi (w := I 9 p 10) rfl ?_
                  refine x_if_eq 125 114 dX1_perform_111 (by decide) rfl (fun c111 => ?_) (fun c111 => ?_)
                  · skip
                    rw [if_pos c111] at hq
                    refine x_aload_n 126 dX1_perform_125 rfl rfl ?_
                    refine x_gets 129 dX1_perform_126 rfl fl_X1_371 (hT.ks.l0 (by omega)) (show R1 0 0 19 = some p by rw [hR1]; exact xu_eq) ?_
                    refine x_geti 132 dX1_perform_129 rfl fl_X1_503 (hT.ks.l9 (by omega)) ?_
                    refine x_vi (w := I 9 p 11) rfl ?_
                    refine x_if_eq 150 135 dX1_perform_132 (by decide) rfl (fun c132 => ?_) (fun c132 => ?_)
                    · skip
                      rw [if_neg (fun h => h.2 c132)] at hq
                      refine x_aload_n 151 dX1_perform_150 rfl rfl ?_
                      refine x_aload_n 152 dX1_perform_151 rfl rfl ?_
                      refine x_gets 155 dX1_perform_152 rfl fl_X1_371 (hT.ks.l0 (by omega)) (show R1 0 0 19 = some p by rw [hR1]; exact xu_eq) ?_
                      refine x_callV (as := []) (rest := [.ref (x.ad 0 0)]) (i := p) (n' := n - 1) 158 dX1_perform_155 rfl mv_X1_231 rfl rfl (hT.ks.l9 (by omega)) (nh_perform (by omega)) (by omega) (xst (Nat.le_of_ble_eq_true rfl)) (c_X10_hasGroup hT.ks (by omega) (by omega) ?_)
                      change X _ _ _ _ _ _ _ _ _ _
                      refine x_vi (w := b2i (pGrp I p)) rfl ?_
                      refine x_if_ne 167 161 dX1_perform_158 (by decide) rfl (fun c158 => ?_) (fun c158 => ?_)
                      · skip
                        have c158 : pGrp I p := b2i_n0.mp c158
                        refine x_iload_n 168 dX1_perform_167 rfl rfl ?_
                        refine x_goto 173 dX1_perform_168 (by decide) ?_
                        refine x_puti 176 dX1_perform_173 rfl fl_X1_291 rfl rfl (hT.ks.l0 (by omega)) ?_
                        refine k_nmA (v := v) (kI_xu (c := 0) rfl) fun I1 hI1 => ?_
                        refine x_aload_n 177 dX1_perform_176 rfl rfl ?_
                        refine x_gets 180 dX1_perform_177 rfl fl_X1_371 (hT.ks.l0 (by omega)) (show R1 0 0 19 = some p by rw [hR1]; exact xu_eq) ?_
                        refine x_getz 183 dX1_perform_180 rfl fl_X1_246 (hT.ks.l9 (by omega)) (hT.ks.z9_4 (by omega)) ?_
                        refine x_iconst (v := 0) 184 dX1_perform_183 rfl rfl ?_
                        refine x_aload_n 185 dX1_perform_184 rfl rfl ?_
                        refine x_getz 188 dX1_perform_185 rfl fl_X1_64 (hT.ks.l0 (by omega)) (hT.ks.z0_20 (by omega)) ?_
                        refine x_iconst (v := 0) 189 dX1_perform_188 rfl rfl ?_
                        refine x_bipush (v := 8) 191 dX1_perform_189 rfl rfl ?_
                        refine x_copyr (sp := 0) (dp := 0) (m := 8) 194 dX1_perform_191 rfl cp_X1_148 ar_46 ar_29 ⟨by decide, _, _, _, rfl, rfl⟩ (hT.ks.l46 (by omega)) (hT.ks.l29 (by omega)) (by decide) (by omega) (xst (Nat.le_of_ble_eq_true rfl)) ⟨by omega, by omega, by omega⟩ (by rw [(hT.ks.n46 (by omega))]; omega) (by rw [(hT.ks.n29 (by omega))]; omega) (fun k_ j_ h_ _ => hT.ks.l7 (hKa.rf.me.row (show xu R 0 0 19 (some p) 46 p k_ = some j_ by rw [← hR1]; exact h_))) ?_
                        refine k_nmC (v := v) (C1 := xur R1 29 0 (va_cpy (R1 46 p) (R1 29 0) 0 0 8)) (kR_xur (c := 29) rfl) fun R2 hR2 => ?_
                        refine x_aload_n 195 dX1_perform_194 rfl rfl ?_
                        refine x_iconst (v := -1) 196 dX1_perform_195 rfl rfl ?_
                        refine x_puti 199 dX1_perform_196 rfl fl_X1_67 rfl rfl (hT.ks.l0 (by omega)) ?_
                        refine k_nmA (v := v) (kI_xu (c := 0) rfl) fun I2 hI2 => ?_
                        have ew : kWho I p false = nI p := by unfold kWho; rw [cif_t (Or.inl c158)]
                        have e3 : kS3 I R th p (kWho I p false) = (I2, R2, th) := by rw [ew]; unfold kS3; rw [hI2, hI1, hR2, hR1]
                        have hK3 : KI (I2, R2, th) x.N mm := by rw [← e3]; exact hKa.s3
                        have hme3 : R2 0 0 19 = some p := by have := kS3_me (A := I) (C := R) (th := th) (p := p) (w := kWho I p false); rw [e3] at this; exact this
                        rw [e3] at hq
                        dsimp only at hq
                        refine x_aload_n 200 dX1_perform_199 rfl rfl ?_
                        refine x_iload_n 201 dX1_perform_200 rfl rfl ?_
                        refine x_iload_n 202 dX1_perform_201 rfl rfl ?_
                        refine x_iload 204 dX1_perform_202 rfl rfl ?_
                        refine x_iload 206 dX1_perform_204 rfl rfl ?_
                        obtain ⟨r_, hd_⟩ : ∃ r : kQ, r = kTwin (I2, R2, th) p d := ⟨_, rfl⟩
                        rw [← hd_] at hq
                        unfold kPf1 at hq
                        refine x_callVH (as := [.int 6, .int (nI d), .int vb, .int (nI ((iN (I 0 0 12))))]) (rest := []) (i := 0) (n' := n - 1) 209 dX1_perform_206 rfl mv_X1_506 rfl rfl (hT.ks.l0 (by omega)) (hd_perform (by omega) (by omega)) (by omega) (xst (Nat.le_of_ble_eq_true rfl)) (c_X1_run_6 hT hK3 (by omega) (by omega) hme3 hp16 (by omega) (kOsN hd_ ⟨fun h99 => ?_, ⟨?_, ?_⟩⟩))
                        · skip
                          rw [if_pos h99] at hq
                          exact hq.1 h99
                        · skip
                          intro hz w1 hU1
                          change X _ _ _ _ _ _ _ _ _ _
                          rw [if_neg (by rw [hz]; decide)] at hq
                          obtain ⟨hok, hq⟩ := hq.as
                          rw [if_pos hz] at hq
                          refine x_fgt [(1, .ref (x.ad 0 0)), xo, xo, xo, xo, xo, xo, xo, xo] ⟨Or.inr rfl, Or.inl rfl, Or.inl rfl, Or.inl rfl, Or.inl rfl, Or.inl rfl, Or.inl rfl, Or.inl rfl, Or.inl rfl, trivial⟩ ?_
                          exact s209_pf (D := D) (Lg := Lg) hU1 hp16 hok (by omega) hq
                        · skip
                          intro hz w1 hU1
                          by_cases h9 : r_.1.1 = 99
                          · rw [if_pos h9] at hq; exact absurd h9 hq.1
                          · rw [if_neg h9] at hq
                            obtain ⟨hok, hq⟩ := hq.as
                            rw [if_neg hz] at hq
                            refine ⟨0, rfl, hU1.ks.l3 (by omega), ?_⟩
                            refine x_fgt [(1, .ref (x.ad 0 0)), xo, xo, xo, xo, xo, xo, xo, xo] ⟨Or.inr rfl, Or.inl rfl, Or.inl rfl, Or.inl rfl, Or.inl rfl, Or.inl rfl, Or.inl rfl, Or.inl rfl, Or.inl rfl, trivial⟩ ?_
                            exact s231_pf hU1 hp16 hok (by omega) hq
                      · skip
                        have c158 : ¬ (pGrp I p) := b2i_0.mp c158
                        refine x_iload_n 162 dX1_perform_161 rfl rfl ?_
                        refine x_bipush (v := 21) 164 dX1_perform_162 rfl rfl ?_
                        refine x_icmp_ne 171 167 dX1_perform_164 (by decide) rfl (fun c164 => ?_) (fun c164 => ?_)
                        · skip
                          refine x_bipush (v := 16) 173 dX1_perform_171 rfl rfl ?_
                          refine x_puti 176 dX1_perform_173 rfl fl_X1_291 rfl rfl (hT.ks.l0 (by omega)) ?_
                          refine k_nmA (v := v) (kI_xu (c := 0) rfl) fun I1 hI1 => ?_
                          refine x_aload_n 177 dX1_perform_176 rfl rfl ?_
                          refine x_gets 180 dX1_perform_177 rfl fl_X1_371 (hT.ks.l0 (by omega)) (show R1 0 0 19 = some p by rw [hR1]; exact xu_eq) ?_
                          refine x_getz 183 dX1_perform_180 rfl fl_X1_246 (hT.ks.l9 (by omega)) (hT.ks.z9_4 (by omega)) ?_
                          refine x_iconst (v := 0) 184 dX1_perform_183 rfl rfl ?_
                          refine x_aload_n 185 dX1_perform_184 rfl rfl ?_
                          refine x_getz 188 dX1_perform_185 rfl fl_X1_64 (hT.ks.l0 (by omega)) (hT.ks.z0_20 (by omega)) ?_
                          refine x_iconst (v := 0) 189 dX1_perform_188 rfl rfl ?_
                          refine x_bipush (v := 8) 191 dX1_perform_189 rfl rfl ?_
                          refine x_copyr (sp := 0) (dp := 0) (m := 8) 194 dX1_perform_191 rfl cp_X1_148 ar_46 ar_29 ⟨by decide, _, _, _, rfl, rfl⟩ (hT.ks.l46 (by omega)) (hT.ks.l29 (by omega)) (by decide) (by omega) (xst (Nat.le_of_ble_eq_true rfl)) ⟨by omega, by omega, by omega⟩ (by rw [(hT.ks.n46 (by omega))]; omega) (by rw [(hT.ks.n29 (by omega))]; omega) (fun k_ j_ h_ _ => hT.ks.l7 (hKa.rf.me.row (show xu R 0 0 19 (some p) 46 p k_ = some j_ by rw [← hR1]; exact h_))) ?_
                          refine k_nmC (v := v) (C1 := xur R1 29 0 (va_cpy (R1 46 p) (R1 29 0) 0 0 8)) (kR_xur (c := 29) rfl) fun R2 hR2 => ?_
                          refine x_aload_n 195 dX1_perform_194 rfl rfl ?_
                          refine x_iconst (v := -1) 196 dX1_perform_195 rfl rfl ?_
                          refine x_puti 199 dX1_perform_196 rfl fl_X1_67 rfl rfl (hT.ks.l0 (by omega)) ?_
                          refine k_nmA (v := v) (kI_xu (c := 0) rfl) fun I2 hI2 => ?_
                          have ew : kWho I p false = 16 := by unfold kWho; rw [cif_f (fun h => h.elim c158 (fun g => by cases g))]
                          have e3 : kS3 I R th p (kWho I p false) = (I2, R2, th) := by rw [ew]; unfold kS3; rw [hI2, hI1, hR2, hR1]
                          have hK3 : KI (I2, R2, th) x.N mm := by rw [← e3]; exact hKa.s3
                          have hme3 : R2 0 0 19 = some p := by have := kS3_me (A := I) (C := R) (th := th) (p := p) (w := kWho I p false); rw [e3] at this; exact this
                          rw [e3] at hq
                          dsimp only at hq
                          refine x_aload_n 200 dX1_perform_199 rfl rfl ?_
                          refine x_iload_n 201 dX1_perform_200 rfl rfl ?_
                          refine x_iload_n 202 dX1_perform_201 rfl rfl ?_
                          refine x_iload 204 dX1_perform_202 rfl rfl ?_
                          refine x_iload 206 dX1_perform_204 rfl rfl ?_
                          obtain ⟨r_, hd_⟩ : ∃ r : kQ, r = kTwin (I2, R2, th) p d := ⟨_, rfl⟩
                          rw [← hd_] at hq
                          unfold kPf1 at hq
                          refine x_callVH (as := [.int 6, .int (nI d), .int vb, .int (nI ((iN (I 0 0 12))))]) (rest := []) (i := 0) (n' := n - 1) 209 dX1_perform_206 rfl mv_X1_506 rfl rfl (hT.ks.l0 (by omega)) (hd_perform (by omega) (by omega)) (by omega) (xst (Nat.le_of_ble_eq_true rfl)) (c_X1_run_6 hT hK3 (by omega) (by omega) hme3 hp16 (by omega) (kOsN hd_ ⟨fun h99 => ?_, ⟨?_, ?_⟩⟩))
                          · skip
                            rw [if_pos h99] at hq
                            exact hq.1 h99
                          · skip
                            intro hz w1 hU1
                            change X _ _ _ _ _ _ _ _ _ _
                            rw [if_neg (by rw [hz]; decide)] at hq
                            obtain ⟨hok, hq⟩ := hq.as
                            rw [if_pos hz] at hq
                            refine x_fgt [(1, .ref (x.ad 0 0)), xo, xo, xo, xo, xo, xo, xo, xo] ⟨Or.inr rfl, Or.inl rfl, Or.inl rfl, Or.inl rfl, Or.inl rfl, Or.inl rfl, Or.inl rfl, Or.inl rfl, Or.inl rfl, trivial⟩ ?_
                            exact s209_pf (D := D) (Lg := Lg) hU1 hp16 hok (by omega) hq
                          · skip
                            intro hz w1 hU1
                            by_cases h9 : r_.1.1 = 99
                            · rw [if_pos h9] at hq; exact absurd h9 hq.1
                            · rw [if_neg h9] at hq
                              obtain ⟨hok, hq⟩ := hq.as
                              rw [if_neg hz] at hq
                              refine ⟨0, rfl, hU1.ks.l3 (by omega), ?_⟩
                              refine x_fgt [(1, .ref (x.ad 0 0)), xo, xo, xo, xo, xo, xo, xo, xo] ⟨Or.inr rfl, Or.inl rfl, Or.inl rfl, Or.inl rfl, Or.inl rfl, Or.inl rfl, Or.inl rfl, Or.inl rfl, Or.inl rfl, trivial⟩ ?_
                              exact s231_pf hU1 hp16 hok (by omega) hq
                        · skip
                          exfalso; revert c164; decide
                    · skip
                      refine x_iload_n 136 dX1_perform_135 rfl rfl ?_
                      refine x_bipush (v := 22) 138 dX1_perform_136 rfl rfl ?_
                      refine x_icmp_eq 150 141 dX1_perform_138 (by decide) rfl (fun c138 => ?_) (fun c138 => ?_)
                      · skip
                        exfalso; revert c138; decide
                      · skip
                        refine x_iload_n 142 dX1_perform_141 rfl rfl ?_
                        refine x_bipush (v := 23) 144 dX1_perform_142 rfl rfl ?_
                        refine x_icmp_eq 150 147 dX1_perform_144 (by decide) rfl (fun c144 => ?_) (fun c144 => ?_)
                        · skip
                          exfalso; revert c144; decide
                        · skip
                          refine x_bipush (v := -5) 149 dX1_perform_147 rfl rfl ?_
                          refine x_ireturn dX1_perform_149 rfl ?_
                          rw [if_pos ⟨rfl, c132⟩] at hq
                          rw [hR1]
                          exact hq.ret3 hT
                  · skip
                    refine x_aload_n 115 dX1_perform_114 rfl rfl ?_
                    refine x_gets 118 dX1_perform_115 rfl fl_X1_371 (hT.ks.l0 (by omega)) (show R1 0 0 19 = some p by rw [hR1]; exact xu_eq) ?_
                    refine x_iconst (v := 0) 119 dX1_perform_118 rfl rfl ?_
                    refine x_puti 122 dX1_perform_119 rfl fl_X1_357 rfl rfl (hT.ks.l9 (by omega)) ?_
                    refine k_nmA (v := v) (kI_xu (c := 9) rfl) fun I1 hI1 => ?_
                    refine x_bipush (v := -9) 124 dX1_perform_122 rfl rfl ?_
                    refine x_ireturn dX1_perform_124 rfl ?_
                    rw [if_neg c111] at hq
                    rw [hI1, hR1]
                    exact hq.ret3 hT
                · skip
                  have c89 : ¬ (0 ≤ va ∧ va ≤ 7) := b2i_0.mp c89
                  refine x_iconst (v := -1) 93 dX1_perform_92 rfl rfl ?_
                  refine x_ireturn dX1_perform_93 rfl ?_
                  exact hbad c50 (fun h => c89 h.2) _ pF2.rfl
          · skip
            refine x_bipush (v := -14) 55 dX1_perform_53 rfl rfl ?_
            refine x_ireturn dX1_perform_55 rfl ?_
            exact hdn (by exact c50)
        · skip
          exfalso; revert c35; decide
      · skip
        have c23 : (8 : Int32) ≤ (6 : Int32) ∧ (6 : Int32) ≤ (15 : Int32) := b2i_n0.mp c23
        exact absurd c23 (by decide)
set_option maxHeartbeats 400000 in
set_option maxRecDepth 100000 in
theorem c_X1_perform_9 {G : xG} {n : Nat} {Q : Outcome → xS → Prop} {x : kX} {I : xI} {R : xR} {v : kV} {th : List xTh} {mm : Nat} (hT : KT x v th) (hK : KI (I, R, th) x.N mm) {D Lg : Nat} {pp va vb : Int32} (hmm : mm + 300 < 16384) (hn : 18 ≤ n) (hdn : ¬ (xu I 0 0 12 0) 5 0 7 = 0 → Q (.returned (some (.int (-14)))) (kS (xu I 0 0 12 0) R x v)) (hbad : (xu I 0 0 12 0) 5 0 7 = 0 → (¬ (kLv (xu I 0 0 12 0) pp ∧ ((True) ∧ ∃ l, pParse (I 27 0) 0 (iN (I 0 0 12)) = some l ∧ pLast (I 27 0) l.length (lF l) (lG l)))) → ∀ A', pF2 (xu I 0 0 12 0) A' → Q (.returned (some (.int (-1)))) (kS A' R x v)) (hgo : (xu I 0 0 12 0) 5 0 7 = 0 → kLv (xu I 0 0 12 0) pp → (True) → ∀ l A', pF2 (xu I 0 0 12 0) A' → pGot (xu I 0 0 12 0) A' 0 0 (iN (I 0 0 12)) l → pLast (I 27 0) l.length (lF l) (lG l) → kOs Q x (kMid x.N x.B D Lg (iN pp) true (kWho A' (iN pp) false) A' R th (fun s => kDoUnl x.N s (iN pp) (I 27 0) (lF l) (lG l) l.length))) : xCall G mX1_perform n [.ref (x.ad 0 0), .int pp, .int 9, .int va, .int vb] (kS I R x v) Q := by
  refine x_met (L0 := [(1, .ref (x.ad 0 0)), (1, .int pp), (1, .int 9), (1, .int va), (1, .int vb), xo, xo, xo, xo]) (by decide +kernel) rfl ⟨Nat.le_of_ble_eq_true rfl, rfl⟩ ?_
  have hnb := hT.ks.nb
  have hsz2 := hK.wf.sz.2
  refine x_aload_n 1 dX1_perform_0 rfl rfl ?_
  refine x_geti 4 dX1_perform_1 rfl fl_X1_219 (hT.ks.l0 (by omega)) ?_
  refine x_vi (w := I 0 0 12) rfl ?_
  refine x_vi (w := nI ((iN (I 0 0 12)))) hK.wf.sz.1 ?_
  refine x_istore 6 [(1, .ref (x.ad 0 0)), (1, .int pp), (1, .int 9), (1, .int va), (1, .int vb), (1, .int (nI ((iN (I 0 0 12))))), xo, xo, xo] dX1_perform_4 rfl (by decide) rfl ?_
  refine x_iload_n 7 dX1_perform_6 rfl rfl ?_
  refine x_if_eq 26 10 dX1_perform_7 (by decide) rfl (fun c7 => ?_) (fun c7 => ?_)
  · skip
    exfalso; revert c7; decide
  · skip
    refine x_iload_n 11 dX1_perform_10 rfl rfl ?_
    refine x_iconst (v := 3) 12 dX1_perform_11 rfl rfl ?_
    refine x_icmp_eq 26 15 dX1_perform_12 (by decide) rfl (fun c12 => ?_) (fun c12 => ?_)
    · skip
      exfalso; revert c12; decide
    · skip
      refine x_iload_n 16 dX1_perform_15 rfl rfl ?_
      refine x_bipush (v := 8) 18 dX1_perform_16 rfl rfl ?_
      refine x_bipush (v := 15) 20 dX1_perform_18 rfl rfl ?_
      refine x_callS (as := [.int 9, .int 8, .int 15]) (rest := []) (n' := n - 1) 23 dX1_perform_20 rfl ms_X1_211 rfl rfl (nh_perform (by omega)) (by omega) (xst (Nat.le_of_ble_eq_true rfl)) (c_X1_isIn (by omega) ?_)
      change X _ _ _ _ _ _ _ _ _ _
      refine x_vi (w := b2i ((8 : Int32) ≤ (9 : Int32) ∧ (9 : Int32) ≤ (15 : Int32))) rfl ?_
      refine x_if_eq 30 26 dX1_perform_23 (by decide) rfl (fun c23 => ?_) (fun c23 => ?_)
      · skip
        have c23 : ¬ ((8 : Int32) ≤ (9 : Int32) ∧ (9 : Int32) ≤ (15 : Int32)) := b2i_0.mp c23
        exact absurd (by decide) c23
      · skip
        have c23 : (8 : Int32) ≤ (9 : Int32) ∧ (9 : Int32) ≤ (15 : Int32) := b2i_n0.mp c23
        refine x_iconst (v := 1) 27 dX1_perform_26 rfl rfl ?_
        refine x_goto 31 dX1_perform_27 (by decide) ?_
        refine x_istore 33 [(1, .ref (x.ad 0 0)), (1, .int pp), (1, .int 9), (1, .int va), (1, .int vb), (1, .int (nI ((iN (I 0 0 12))))), (1, .int 1), xo, xo] dX1_perform_31 rfl (by decide) rfl ?_
        refine x_iload 35 dX1_perform_33 rfl rfl ?_
        refine x_if_eq 43 38 dX1_perform_35 (by decide) rfl (fun c35 => ?_) (fun c35 => ?_)
        · skip
          exfalso; revert c35; decide
        · skip
          refine x_aload_n 39 dX1_perform_38 rfl rfl ?_
          refine x_iconst (v := 0) 40 dX1_perform_39 rfl rfl ?_
          refine x_puti 43 dX1_perform_40 rfl fl_X1_219 rfl rfl (hT.ks.l0 (by omega)) ?_
          refine k_nmA (v := v) (kI_xu (c := 0) rfl) fun I1 hI1 => ?_
          refine x_aload_n 44 dX1_perform_43 rfl rfl ?_
          refine x_getz 47 dX1_perform_44 rfl fl_X1_92 (hT.ks.l0 (by omega)) (hT.ks.z0_0 (by omega)) ?_
          refine x_geti 50 dX1_perform_47 rfl fl_X1_160 (hT.ks.l5 (by omega)) ?_
          refine x_vi (w := I1 5 0 7) rfl ?_
          refine x_if_eq 56 53 dX1_perform_50 (by decide) rfl (fun c50 => ?_) (fun c50 => ?_)
          · skip
            refine x_iload_n 57 dX1_perform_56 rfl rfl ?_
            refine x_iconst (v := 0) 58 dX1_perform_57 rfl rfl ?_
            refine x_bipush (v := 15) 60 dX1_perform_58 rfl rfl ?_
            refine x_callS (as := [.int pp, .int 0, .int 15]) (rest := []) (n' := n - 1) 63 dX1_perform_60 rfl ms_X1_211 rfl rfl (nh_perform (by omega)) (by omega) (xst (Nat.le_of_ble_eq_true rfl)) (c_X1_isIn (by omega) ?_)
            change X _ _ _ _ _ _ _ _ _ _
            refine x_vi (w := b2i ((0 : Int32) ≤ pp ∧ pp ≤ (15 : Int32))) rfl ?_
            refine x_if_eq 92 66 dX1_perform_63 (by decide) rfl (fun c63 => ?_) (fun c63 => ?_)
            · skip
              have c63 : ¬ ((0 : Int32) ≤ pp ∧ pp ≤ (15 : Int32)) := b2i_0.mp c63
              refine x_iconst (v := -1) 93 dX1_perform_92 rfl rfl ?_
              refine x_ireturn dX1_perform_93 rfl ?_
              rw [← hI1] at hbad
              exact hbad c50 (fun h => c63 h.1.1) _ pF2.rfl
            · skip
              have c63 : (0 : Int32) ≤ pp ∧ pp ≤ (15 : Int32) := b2i_n0.mp c63
              obtain ⟨p, hp15, rfl⟩ := ppn (m := 15) (by omega) c63
              have hp16 : p < 16 := by omega
              have hpe : iN (nI p) = p := iN_nI (by omega)
              have tpI : I1 27 0 = I 27 0 := by rw [hI1]; funext j; exact xu_c (by decide)
              have he := hK.wf.sz.2
              refine x_aload_n 67 dX1_perform_66 rfl rfl ?_
              refine x_getz 70 dX1_perform_67 rfl fl_X1_39 (hT.ks.l0 (by omega)) (hT.ks.z0_8 (by omega)) ?_
              refine x_iload_n 71 dX1_perform_70 rfl rfl ?_
              refine x_aldz 72 dX1_perform_71 rfl ar_26 rfl (hT.ks.l26 (by omega)) (xb (hT.ks.n26 (by omega)) (by omega) (by omega)) (hT.ks.z26 (by omega)) ?_
              refine x_geti 75 dX1_perform_72 rfl fl_X1_208 (hT.ks.l9 (by omega)) ?_
              refine x_vi (w := I1 9 p 1) rfl ?_
              refine x_iconst (v := 1) 76 dX1_perform_75 rfl rfl ?_
              refine x_icmp_ne 92 79 dX1_perform_76 (by decide) rfl (fun c76 => ?_) (fun c76 => ?_)
              · skip
                refine x_iconst (v := -1) 93 dX1_perform_92 rfl rfl ?_
                refine x_ireturn dX1_perform_93 rfl ?_
                rw [← hI1] at hbad
                exact hbad c50 (fun h => c76 (by have := h.1.2; rw [iN_nI (by omega)] at this; exact this)) _ pF2.rfl
              · skip
                refine x_aload_n 80 dX1_perform_79 rfl rfl ?_
                refine x_iload_n 81 dX1_perform_80 rfl rfl ?_
                refine x_iload_n 82 dX1_perform_81 rfl rfl ?_
                refine x_iload 84 dX1_perform_82 rfl rfl ?_
                refine x_iload 86 dX1_perform_84 rfl rfl ?_
                refine x_callV (as := [.int 9, .int va, .int vb, .int (nI ((iN (I 0 0 12))))]) (rest := []) (i := 0) (n' := n - 1) 89 dX1_perform_86 rfl mv_X1_499 rfl rfl (hT.ks.l0 (by omega)) (nh_perform (by omega)) (by omega) (xst (Nat.le_of_ble_eq_true rfl)) (c_X1_isGood_9 (I := kI I1 v.t) (va := va) (vb := vb) (e := (iN (I 0 0 12))) hT.ks (by omega) (by omega) ?_ ?_)
                · skip
                  intro hng I_ hF_
                  obtain ⟨Aa, rfl, hFa, hPS, h43⟩ := k_pF2 hF_
                  have hng : ¬ ((True) ∧ ∃ l, pParse (I 27 0) 0 (iN (I 0 0 12)) = some l ∧ pLast (I 27 0) l.length (lF l) (lG l)) := fun h => hng (by rw [show kI I1 v.t 27 0 = I 27 0 from tpI]; exact h)
                  change X _ _ _ _ _ _ _ _ _ _
                  refine x_if_ne 94 92 dX1_perform_89 (by decide) rfl (fun c89 => ?_) (fun c89 => ?_)
                  · skip
                    exfalso; revert c89; decide
                  · skip
                    refine x_iconst (v := -1) 93 dX1_perform_92 rfl rfl ?_
                    refine x_ireturn dX1_perform_93 rfl ?_
                    rw [← hI1] at hbad
                    exact hbad c50 (fun h => hng h.2) Aa hFa
                · skip
                  intro hnm l I_ hF_ hG hL
                  obtain ⟨Aa, rfl, hFa, hPS, h43⟩ := k_pF2 hF_
                  have hGa : pGot I1 Aa 0 0 (iN (I 0 0 12)) l := ⟨hG.1, hPS _ _ _ _ hG.2.1, (h43 0).trans hG.2.2⟩
                  have hL : pLast (I 27 0) l.length (lF l) (lG l) := by rw [show kI I1 v.t 27 0 = I 27 0 from tpI] at hL; exact hL
                  change X _ _ _ _ _ _ _ _ _ _
                  refine x_if_ne 94 92 dX1_perform_89 (by decide) rfl (fun c89 => ?_) (fun c89 => ?_)
                  · skip
                    rw [← hI1] at hgo
                    have hq := hgo c50 ⟨c63, by rw [hpe]; exact c76⟩ hnm l Aa hFa hGa hL
                    rw [hpe] at hq
                    unfold kMid at hq
                    have hKa : KI (Aa, R, th) x.N mm := ((show KI (I1, R, th) x.N mm by rw [hI1]; exact KI.u0s hK)).pf2 hFa
                    refine x_aload_n 95 dX1_perform_94 rfl rfl ?_
                    refine x_aload_n 96 dX1_perform_95 rfl rfl ?_
                    refine x_getz 99 dX1_perform_96 rfl fl_X1_39 (hT.ks.l0 (by omega)) (hT.ks.z0_8 (by omega)) ?_
                    refine x_iload_n 100 dX1_perform_99 rfl rfl ?_
                    refine x_aldz 101 dX1_perform_100 rfl ar_26 rfl (hT.ks.l26 (by omega)) (xb (hT.ks.n26 (by omega)) (by omega) (by omega)) (hT.ks.z26 (by omega)) ?_
                    refine x_asR ?_
                    refine x_putr 104 dX1_perform_101 rfl fl_X1_371 (Or.inl ⟨_, rfl⟩) (hT.ks.l0 (by omega)) (fun _ h => by cases h; exact (hT.ks.l9 (by omega))) ?_
                    refine k_nmC (v := v) (kR_xu (c := 0) rfl) fun R1 hR1 => ?_
                    refine x_aload_n 105 dX1_perform_104 rfl rfl ?_
                    refine x_gets 108 dX1_perform_105 rfl fl_X1_371 (hT.ks.l0 (by omega)) (show R1 0 0 19 = some p by rw [hR1]; exact xu_eq) ?_
                    refine x_geti 111 dX1_perform_108 rfl fl_X1_357 (hT.ks.l9 (by omega)) ?_
                    refine x_vi (w := Aa 9 p 10) rfl ?_
                    refine x_if_eq 125 114 dX1_perform_111 (by decide) rfl (fun c111 => ?_) (fun c111 => ?_)
                    · skip
                      rw [if_pos c111] at hq
                      refine x_aload_n 126 dX1_perform_125 rfl rfl ?_
                      refine x_gets 129 dX1_perform_126 rfl fl_X1_371 (hT.ks.l0 (by omega)) (show R1 0 0 19 = some p by rw [hR1]; exact xu_eq) ?_
                      refine x_geti 132 dX1_perform_129 rfl fl_X1_503 (hT.ks.l9 (by omega)) ?_
                      refine x_vi (w := Aa 9 p 11) rfl ?_
                      refine x_if_eq 150 135 dX1_perform_132 (by decide) rfl (fun c132 => ?_) (fun c132 => ?_)
                      · skip
                        rw [if_neg (fun h => h.2 c132)] at hq
                        refine x_aload_n 151 dX1_perform_150 rfl rfl ?_
                        refine x_aload_n 152 dX1_perform_151 rfl rfl ?_
                        refine x_gets 155 dX1_perform_152 rfl fl_X1_371 (hT.ks.l0 (by omega)) (show R1 0 0 19 = some p by rw [hR1]; exact xu_eq) ?_
                        refine x_callV (as := []) (rest := [.ref (x.ad 0 0)]) (i := p) (n' := n - 1) 158 dX1_perform_155 rfl mv_X1_231 rfl rfl (hT.ks.l9 (by omega)) (nh_perform (by omega)) (by omega) (xst (Nat.le_of_ble_eq_true rfl)) (c_X10_hasGroup hT.ks (by omega) (by omega) ?_)
                        change X _ _ _ _ _ _ _ _ _ _
                        refine x_vi (w := b2i (pGrp Aa p)) rfl ?_
                        refine x_if_ne 167 161 dX1_perform_158 (by decide) rfl (fun c158 => ?_) (fun c158 => ?_)
                        · skip
                          have c158 : pGrp Aa p := b2i_n0.mp c158
                          refine x_iload_n 168 dX1_perform_167 rfl rfl ?_
                          refine x_goto 173 dX1_perform_168 (by decide) ?_
                          refine x_puti 176 dX1_perform_173 rfl fl_X1_291 rfl rfl (hT.ks.l0 (by omega)) ?_
                          refine k_nmA (v := v) (kI_xu (c := 0) rfl) fun I2 hI2 => ?_
                          refine x_aload_n 177 dX1_perform_176 rfl rfl ?_
                          refine x_gets 180 dX1_perform_177 rfl fl_X1_371 (hT.ks.l0 (by omega)) (show R1 0 0 19 = some p by rw [hR1]; exact xu_eq) ?_
                          refine x_getz 183 dX1_perform_180 rfl fl_X1_246 (hT.ks.l9 (by omega)) (hT.ks.z9_4 (by omega)) ?_
                          refine x_iconst (v := 0) 184 dX1_perform_183 rfl rfl ?_
                          refine x_aload_n 185 dX1_perform_184 rfl rfl ?_
                          refine x_getz 188 dX1_perform_185 rfl fl_X1_64 (hT.ks.l0 (by omega)) (hT.ks.z0_20 (by omega)) ?_
                          refine x_iconst (v := 0) 189 dX1_perform_188 rfl rfl ?_
                          refine x_bipush (v := 8) 191 dX1_perform_189 rfl rfl ?_
                          refine x_copyr (sp := 0) (dp := 0) (m := 8) 194 dX1_perform_191 rfl cp_X1_148 ar_46 ar_29 ⟨by decide, _, _, _, rfl, rfl⟩ (hT.ks.l46 (by omega)) (hT.ks.l29 (by omega)) (by decide) (by omega) (xst (Nat.le_of_ble_eq_true rfl)) ⟨by omega, by omega, by omega⟩ (by rw [(hT.ks.n46 (by omega))]; omega) (by rw [(hT.ks.n29 (by omega))]; omega) (fun k_ j_ h_ _ => hT.ks.l7 (hKa.rf.me.row (show xu R 0 0 19 (some p) 46 p k_ = some j_ by rw [← hR1]; exact h_))) ?_
                          refine k_nmC (v := v) (C1 := xur R1 29 0 (va_cpy (R1 46 p) (R1 29 0) 0 0 8)) (kR_xur (c := 29) rfl) fun R2 hR2 => ?_
                          refine x_aload_n 195 dX1_perform_194 rfl rfl ?_
                          refine x_iconst (v := -1) 196 dX1_perform_195 rfl rfl ?_
                          refine x_puti 199 dX1_perform_196 rfl fl_X1_67 rfl rfl (hT.ks.l0 (by omega)) ?_
                          refine k_nmA (v := v) (kI_xu (c := 0) rfl) fun I3 hI3 => ?_
                          have ew : kWho Aa p false = nI p := by unfold kWho; rw [cif_t (Or.inl c158)]
                          have e3 : kS3 Aa R th p (kWho Aa p false) = (I3, R2, th) := by rw [ew]; unfold kS3; rw [hI3, hI2, hR2, hR1]
                          have hK3 : KI (I3, R2, th) x.N mm := by rw [← e3]; exact hKa.s3
                          have hme3 : R2 0 0 19 = some p := by have := kS3_me (A := Aa) (C := R) (th := th) (p := p) (w := kWho Aa p false); rw [e3] at this; exact this
                          rw [e3] at hq
                          dsimp only at hq
                          have hP3 : PS I3 0 l.length (lF l) (lG l) := by rw [hI3, hI2]; exact (hGa.2.1).u0.u0
                          have htp3 : I3 27 0 = I 27 0 := by rw [hI3, hI2, ← tpI]; funext j; rw [xu_c (by decide), xu_c (by decide)]; exact hFa 27 0 j (by omega) (by omega)
                          have h1 := hL.1
                          refine x_aload_n 200 dX1_perform_199 rfl rfl ?_
                          refine x_iload_n 201 dX1_perform_200 rfl rfl ?_
                          refine x_iload_n 202 dX1_perform_201 rfl rfl ?_
                          refine x_iload 204 dX1_perform_202 rfl rfl ?_
                          refine x_iload 206 dX1_perform_204 rfl rfl ?_
                          obtain ⟨r_, hd_⟩ : ∃ r : kQ, r = kDoUnl x.N (I3, R2, th) p (I 27 0) (lF l) (lG l) l.length := ⟨_, rfl⟩
                          rw [← hd_] at hq
                          unfold kPf1 at hq
                          refine x_callVH (as := [.int 9, .int va, .int vb, .int (nI ((iN (I 0 0 12))))]) (rest := []) (i := 0) (n' := n - 1) 209 dX1_perform_206 rfl mv_X1_506 rfl rfl (hT.ks.l0 (by omega)) (hd_perform (by omega) (by omega)) (by omega) (xst (Nat.le_of_ble_eq_true rfl)) (c_X1_run_9 hT hK3 hP3 htp3 h1 (by omega) hme3 hp16 (by omega) (kOsN hd_ ⟨fun h99 => ?_, ⟨?_, ?_⟩⟩))
                          · skip
                            rw [if_pos h99] at hq
                            exact hq.1 h99
                          · skip
                            intro hz w1 hU1
                            change X _ _ _ _ _ _ _ _ _ _
                            rw [if_neg (by rw [hz]; decide)] at hq
                            obtain ⟨hok, hq⟩ := hq.as
                            rw [if_pos hz] at hq
                            refine x_fgt [(1, .ref (x.ad 0 0)), xo, xo, xo, xo, xo, xo, xo, xo] ⟨Or.inr rfl, Or.inl rfl, Or.inl rfl, Or.inl rfl, Or.inl rfl, Or.inl rfl, Or.inl rfl, Or.inl rfl, Or.inl rfl, trivial⟩ ?_
                            exact s209_pf (D := D) (Lg := Lg) hU1 hp16 hok (by omega) hq
                          · skip
                            intro hz w1 hU1
                            by_cases h9 : r_.1.1 = 99
                            · rw [if_pos h9] at hq; exact absurd h9 hq.1
                            · rw [if_neg h9] at hq
                              obtain ⟨hok, hq⟩ := hq.as
                              rw [if_neg hz] at hq
                              refine ⟨0, rfl, hU1.ks.l3 (by omega), ?_⟩
                              refine x_fgt [(1, .ref (x.ad 0 0)), xo, xo, xo, xo, xo, xo, xo, xo] ⟨Or.inr rfl, Or.inl rfl, Or.inl rfl, Or.inl rfl, Or.inl rfl, Or.inl rfl, Or.inl rfl, Or.inl rfl, Or.inl rfl, trivial⟩ ?_
                              exact s231_pf hU1 hp16 hok (by omega) hq
                        · skip
                          have c158 : ¬ (pGrp Aa p) := b2i_0.mp c158
                          refine x_iload_n 162 dX1_perform_161 rfl rfl ?_
                          refine x_bipush (v := 21) 164 dX1_perform_162 rfl rfl ?_
                          refine x_icmp_ne 171 167 dX1_perform_164 (by decide) rfl (fun c164 => ?_) (fun c164 => ?_)
                          · skip
                            refine x_bipush (v := 16) 173 dX1_perform_171 rfl rfl ?_
                            refine x_puti 176 dX1_perform_173 rfl fl_X1_291 rfl rfl (hT.ks.l0 (by omega)) ?_
                            refine k_nmA (v := v) (kI_xu (c := 0) rfl) fun I2 hI2 => ?_
                            refine x_aload_n 177 dX1_perform_176 rfl rfl ?_
                            refine x_gets 180 dX1_perform_177 rfl fl_X1_371 (hT.ks.l0 (by omega)) (show R1 0 0 19 = some p by rw [hR1]; exact xu_eq) ?_
                            refine x_getz 183 dX1_perform_180 rfl fl_X1_246 (hT.ks.l9 (by omega)) (hT.ks.z9_4 (by omega)) ?_
                            refine x_iconst (v := 0) 184 dX1_perform_183 rfl rfl ?_
                            refine x_aload_n 185 dX1_perform_184 rfl rfl ?_
                            refine x_getz 188 dX1_perform_185 rfl fl_X1_64 (hT.ks.l0 (by omega)) (hT.ks.z0_20 (by omega)) ?_
                            refine x_iconst (v := 0) 189 dX1_perform_188 rfl rfl ?_
                            refine x_bipush (v := 8) 191 dX1_perform_189 rfl rfl ?_
                            refine x_copyr (sp := 0) (dp := 0) (m := 8) 194 dX1_perform_191 rfl cp_X1_148 ar_46 ar_29 ⟨by decide, _, _, _, rfl, rfl⟩ (hT.ks.l46 (by omega)) (hT.ks.l29 (by omega)) (by decide) (by omega) (xst (Nat.le_of_ble_eq_true rfl)) ⟨by omega, by omega, by omega⟩ (by rw [(hT.ks.n46 (by omega))]; omega) (by rw [(hT.ks.n29 (by omega))]; omega) (fun k_ j_ h_ _ => hT.ks.l7 (hKa.rf.me.row (show xu R 0 0 19 (some p) 46 p k_ = some j_ by rw [← hR1]; exact h_))) ?_
                            refine k_nmC (v := v) (C1 := xur R1 29 0 (va_cpy (R1 46 p) (R1 29 0) 0 0 8)) (kR_xur (c := 29) rfl) fun R2 hR2 => ?_
                            refine x_aload_n 195 dX1_perform_194 rfl rfl ?_
                            refine x_iconst (v := -1) 196 dX1_perform_195 rfl rfl ?_
                            refine x_puti 199 dX1_perform_196 rfl fl_X1_67 rfl rfl (hT.ks.l0 (by omega)) ?_
                            refine k_nmA (v := v) (kI_xu (c := 0) rfl) fun I3 hI3 => ?_
                            have ew : kWho Aa p false = 16 := by unfold kWho; rw [cif_f (fun h => h.elim c158 (fun g => by cases g))]
                            have e3 : kS3 Aa R th p (kWho Aa p false) = (I3, R2, th) := by rw [ew]; unfold kS3; rw [hI3, hI2, hR2, hR1]
                            have hK3 : KI (I3, R2, th) x.N mm := by rw [← e3]; exact hKa.s3
                            have hme3 : R2 0 0 19 = some p := by have := kS3_me (A := Aa) (C := R) (th := th) (p := p) (w := kWho Aa p false); rw [e3] at this; exact this
                            rw [e3] at hq
                            dsimp only at hq
                            have hP3 : PS I3 0 l.length (lF l) (lG l) := by rw [hI3, hI2]; exact (hGa.2.1).u0.u0
                            have htp3 : I3 27 0 = I 27 0 := by rw [hI3, hI2, ← tpI]; funext j; rw [xu_c (by decide), xu_c (by decide)]; exact hFa 27 0 j (by omega) (by omega)
                            have h1 := hL.1
                            refine x_aload_n 200 dX1_perform_199 rfl rfl ?_
                            refine x_iload_n 201 dX1_perform_200 rfl rfl ?_
                            refine x_iload_n 202 dX1_perform_201 rfl rfl ?_
                            refine x_iload 204 dX1_perform_202 rfl rfl ?_
                            refine x_iload 206 dX1_perform_204 rfl rfl ?_
                            obtain ⟨r_, hd_⟩ : ∃ r : kQ, r = kDoUnl x.N (I3, R2, th) p (I 27 0) (lF l) (lG l) l.length := ⟨_, rfl⟩
                            rw [← hd_] at hq
                            unfold kPf1 at hq
                            refine x_callVH (as := [.int 9, .int va, .int vb, .int (nI ((iN (I 0 0 12))))]) (rest := []) (i := 0) (n' := n - 1) 209 dX1_perform_206 rfl mv_X1_506 rfl rfl (hT.ks.l0 (by omega)) (hd_perform (by omega) (by omega)) (by omega) (xst (Nat.le_of_ble_eq_true rfl)) (c_X1_run_9 hT hK3 hP3 htp3 h1 (by omega) hme3 hp16 (by omega) (kOsN hd_ ⟨fun h99 => ?_, ⟨?_, ?_⟩⟩))
                            · skip
                              rw [if_pos h99] at hq
                              exact hq.1 h99
                            · skip
                              intro hz w1 hU1
                              change X _ _ _ _ _ _ _ _ _ _
                              rw [if_neg (by rw [hz]; decide)] at hq
                              obtain ⟨hok, hq⟩ := hq.as
                              rw [if_pos hz] at hq
                              refine x_fgt [(1, .ref (x.ad 0 0)), xo, xo, xo, xo, xo, xo, xo, xo] ⟨Or.inr rfl, Or.inl rfl, Or.inl rfl, Or.inl rfl, Or.inl rfl, Or.inl rfl, Or.inl rfl, Or.inl rfl, Or.inl rfl, trivial⟩ ?_
                              exact s209_pf (D := D) (Lg := Lg) hU1 hp16 hok (by omega) hq
                            · skip
                              intro hz w1 hU1
                              by_cases h9 : r_.1.1 = 99
                              · rw [if_pos h9] at hq; exact absurd h9 hq.1
                              · rw [if_neg h9] at hq
                                obtain ⟨hok, hq⟩ := hq.as
                                rw [if_neg hz] at hq
                                refine ⟨0, rfl, hU1.ks.l3 (by omega), ?_⟩
                                refine x_fgt [(1, .ref (x.ad 0 0)), xo, xo, xo, xo, xo, xo, xo, xo] ⟨Or.inr rfl, Or.inl rfl, Or.inl rfl, Or.inl rfl, Or.inl rfl, Or.inl rfl, Or.inl rfl, Or.inl rfl, Or.inl rfl, trivial⟩ ?_
                                exact s231_pf hU1 hp16 hok (by omega) hq
                          · skip
                            exfalso; revert c164; decide
                      · skip
                        refine x_iload_n 136 dX1_perform_135 rfl rfl ?_
                        refine x_bipush (v := 22) 138 dX1_perform_136 rfl rfl ?_
                        refine x_icmp_eq 150 141 dX1_perform_138 (by decide) rfl (fun c138 => ?_) (fun c138 => ?_)
                        · skip
                          exfalso; revert c138; decide
                        · skip
                          refine x_iload_n 142 dX1_perform_141 rfl rfl ?_
                          refine x_bipush (v := 23) 144 dX1_perform_142 rfl rfl ?_
                          refine x_icmp_eq 150 147 dX1_perform_144 (by decide) rfl (fun c144 => ?_) (fun c144 => ?_)
                          · skip
                            exfalso; revert c144; decide
                          · skip
                            refine x_bipush (v := -5) 149 dX1_perform_147 rfl rfl ?_
                            refine x_ireturn dX1_perform_149 rfl ?_
                            rw [if_pos ⟨rfl, c132⟩] at hq
                            rw [hR1]
                            exact hq.ret3 hT
                    · skip
                      refine x_aload_n 115 dX1_perform_114 rfl rfl ?_
                      refine x_gets 118 dX1_perform_115 rfl fl_X1_371 (hT.ks.l0 (by omega)) (show R1 0 0 19 = some p by rw [hR1]; exact xu_eq) ?_
                      refine x_iconst (v := 0) 119 dX1_perform_118 rfl rfl ?_
                      refine x_puti 122 dX1_perform_119 rfl fl_X1_357 rfl rfl (hT.ks.l9 (by omega)) ?_
                      refine k_nmA (v := v) (kI_xu (c := 9) rfl) fun I2 hI2 => ?_
                      refine x_bipush (v := -9) 124 dX1_perform_122 rfl rfl ?_
                      refine x_ireturn dX1_perform_124 rfl ?_
                      rw [if_neg c111] at hq
                      rw [hI2, hR1]
                      exact hq.ret3 hT
                  · skip
                    exfalso; revert c89; decide
          · skip
            refine x_bipush (v := -14) 55 dX1_perform_53 rfl rfl ?_
            refine x_ireturn dX1_perform_55 rfl ?_
            rw [← hI1] at hdn
            exact hdn c50
set_option maxHeartbeats 400000 in
set_option maxRecDepth 100000 in
theorem c_X1_perform_10 {G : xG} {n : Nat} {Q : Outcome → xS → Prop} {x : kX} {I : xI} {R : xR} {v : kV} {th : List xTh} {mm : Nat} (hT : KT x v th) (hK : KI (I, R, th) x.N mm) {D Lg : Nat} {pp va vb : Int32} (hmm : mm + 300 < 16384) (hn : 18 ≤ n) (hdn : ¬ (xu I 0 0 12 0) 5 0 7 = 0 → Q (.returned (some (.int (-14)))) (kS (xu I 0 0 12 0) R x v)) (hbad : (xu I 0 0 12 0) 5 0 7 = 0 → (¬ (kLv (xu I 0 0 12 0) pp ∧ ((True) ∧ ∃ l, pParse (I 27 0) 0 (iN (I 0 0 12)) = some l ∧ pLast (I 27 0) l.length (lF l) (lG l)))) → ∀ A', pF2 (xu I 0 0 12 0) A' → Q (.returned (some (.int (-1)))) (kS A' R x v)) (hgo : (xu I 0 0 12 0) 5 0 7 = 0 → kLv (xu I 0 0 12 0) pp → (True) → ∀ l A', pF2 (xu I 0 0 12 0) A' → pGot (xu I 0 0 12 0) A' 0 0 (iN (I 0 0 12)) l → pLast (I 27 0) l.length (lF l) (lG l) → kOs Q x (kMid x.N x.B D Lg (iN pp) true (kWho A' (iN pp) false) A' R th (fun s => kDoRem x.N s (iN pp) (I 27 0) (lF l) (lG l) l.length))) : xCall G mX1_perform n [.ref (x.ad 0 0), .int pp, .int 10, .int va, .int vb] (kS I R x v) Q := by
  refine x_met (L0 := [(1, .ref (x.ad 0 0)), (1, .int pp), (1, .int 10), (1, .int va), (1, .int vb), xo, xo, xo, xo]) (by decide +kernel) rfl ⟨Nat.le_of_ble_eq_true rfl, rfl⟩ ?_
  have hnb := hT.ks.nb
  have hsz2 := hK.wf.sz.2
  refine x_aload_n 1 dX1_perform_0 rfl rfl ?_
  refine x_geti 4 dX1_perform_1 rfl fl_X1_219 (hT.ks.l0 (by omega)) ?_
  refine x_vi (w := I 0 0 12) rfl ?_
  refine x_vi (w := nI ((iN (I 0 0 12)))) hK.wf.sz.1 ?_
  refine x_istore 6 [(1, .ref (x.ad 0 0)), (1, .int pp), (1, .int 10), (1, .int va), (1, .int vb), (1, .int (nI ((iN (I 0 0 12))))), xo, xo, xo] dX1_perform_4 rfl (by decide) rfl ?_
  refine x_iload_n 7 dX1_perform_6 rfl rfl ?_
  refine x_if_eq 26 10 dX1_perform_7 (by decide) rfl (fun c7 => ?_) (fun c7 => ?_)
  · skip
    exfalso; revert c7; decide
  · skip
    refine x_iload_n 11 dX1_perform_10 rfl rfl ?_
    refine x_iconst (v := 3) 12 dX1_perform_11 rfl rfl ?_
    refine x_icmp_eq 26 15 dX1_perform_12 (by decide) rfl (fun c12 => ?_) (fun c12 => ?_)
    · skip
      exfalso; revert c12; decide
    · skip
      refine x_iload_n 16 dX1_perform_15 rfl rfl ?_
      refine x_bipush (v := 8) 18 dX1_perform_16 rfl rfl ?_
      refine x_bipush (v := 15) 20 dX1_perform_18 rfl rfl ?_
      refine x_callS (as := [.int 10, .int 8, .int 15]) (rest := []) (n' := n - 1) 23 dX1_perform_20 rfl ms_X1_211 rfl rfl (nh_perform (by omega)) (by omega) (xst (Nat.le_of_ble_eq_true rfl)) (c_X1_isIn (by omega) ?_)
      change X _ _ _ _ _ _ _ _ _ _
      refine x_vi (w := b2i ((8 : Int32) ≤ (10 : Int32) ∧ (10 : Int32) ≤ (15 : Int32))) rfl ?_
      refine x_if_eq 30 26 dX1_perform_23 (by decide) rfl (fun c23 => ?_) (fun c23 => ?_)
      · skip
        have c23 : ¬ ((8 : Int32) ≤ (10 : Int32) ∧ (10 : Int32) ≤ (15 : Int32)) := b2i_0.mp c23
        exact absurd (by decide) c23
      · skip
        have c23 : (8 : Int32) ≤ (10 : Int32) ∧ (10 : Int32) ≤ (15 : Int32) := b2i_n0.mp c23
        refine x_iconst (v := 1) 27 dX1_perform_26 rfl rfl ?_
        refine x_goto 31 dX1_perform_27 (by decide) ?_
        refine x_istore 33 [(1, .ref (x.ad 0 0)), (1, .int pp), (1, .int 10), (1, .int va), (1, .int vb), (1, .int (nI ((iN (I 0 0 12))))), (1, .int 1), xo, xo] dX1_perform_31 rfl (by decide) rfl ?_
        refine x_iload 35 dX1_perform_33 rfl rfl ?_
        refine x_if_eq 43 38 dX1_perform_35 (by decide) rfl (fun c35 => ?_) (fun c35 => ?_)
        · skip
          exfalso; revert c35; decide
        · skip
          refine x_aload_n 39 dX1_perform_38 rfl rfl ?_
          refine x_iconst (v := 0) 40 dX1_perform_39 rfl rfl ?_
          refine x_puti 43 dX1_perform_40 rfl fl_X1_219 rfl rfl (hT.ks.l0 (by omega)) ?_
          refine k_nmA (v := v) (kI_xu (c := 0) rfl) fun I1 hI1 => ?_
          refine x_aload_n 44 dX1_perform_43 rfl rfl ?_
          refine x_getz 47 dX1_perform_44 rfl fl_X1_92 (hT.ks.l0 (by omega)) (hT.ks.z0_0 (by omega)) ?_
          refine x_geti 50 dX1_perform_47 rfl fl_X1_160 (hT.ks.l5 (by omega)) ?_
          refine x_vi (w := I1 5 0 7) rfl ?_
          refine x_if_eq 56 53 dX1_perform_50 (by decide) rfl (fun c50 => ?_) (fun c50 => ?_)
          · skip
            refine x_iload_n 57 dX1_perform_56 rfl rfl ?_
            refine x_iconst (v := 0) 58 dX1_perform_57 rfl rfl ?_
            refine x_bipush (v := 15) 60 dX1_perform_58 rfl rfl ?_
            refine x_callS (as := [.int pp, .int 0, .int 15]) (rest := []) (n' := n - 1) 63 dX1_perform_60 rfl ms_X1_211 rfl rfl (nh_perform (by omega)) (by omega) (xst (Nat.le_of_ble_eq_true rfl)) (c_X1_isIn (by omega) ?_)
            change X _ _ _ _ _ _ _ _ _ _
            refine x_vi (w := b2i ((0 : Int32) ≤ pp ∧ pp ≤ (15 : Int32))) rfl ?_
            refine x_if_eq 92 66 dX1_perform_63 (by decide) rfl (fun c63 => ?_) (fun c63 => ?_)
            · skip
              have c63 : ¬ ((0 : Int32) ≤ pp ∧ pp ≤ (15 : Int32)) := b2i_0.mp c63
              refine x_iconst (v := -1) 93 dX1_perform_92 rfl rfl ?_
              refine x_ireturn dX1_perform_93 rfl ?_
              rw [← hI1] at hbad
              exact hbad c50 (fun h => c63 h.1.1) _ pF2.rfl
            · skip
              have c63 : (0 : Int32) ≤ pp ∧ pp ≤ (15 : Int32) := b2i_n0.mp c63
              obtain ⟨p, hp15, rfl⟩ := ppn (m := 15) (by omega) c63
              have hp16 : p < 16 := by omega
              have hpe : iN (nI p) = p := iN_nI (by omega)
              have tpI : I1 27 0 = I 27 0 := by rw [hI1]; funext j; exact xu_c (by decide)
              have he := hK.wf.sz.2
              refine x_aload_n 67 dX1_perform_66 rfl rfl ?_
              refine x_getz 70 dX1_perform_67 rfl fl_X1_39 (hT.ks.l0 (by omega)) (hT.ks.z0_8 (by omega)) ?_
              refine x_iload_n 71 dX1_perform_70 rfl rfl ?_
              refine x_aldz 72 dX1_perform_71 rfl ar_26 rfl (hT.ks.l26 (by omega)) (xb (hT.ks.n26 (by omega)) (by omega) (by omega)) (hT.ks.z26 (by omega)) ?_
              refine x_geti 75 dX1_perform_72 rfl fl_X1_208 (hT.ks.l9 (by omega)) ?_
              refine x_vi (w := I1 9 p 1) rfl ?_
              refine x_iconst (v := 1) 76 dX1_perform_75 rfl rfl ?_
              refine x_icmp_ne 92 79 dX1_perform_76 (by decide) rfl (fun c76 => ?_) (fun c76 => ?_)
              · skip
                refine x_iconst (v := -1) 93 dX1_perform_92 rfl rfl ?_
                refine x_ireturn dX1_perform_93 rfl ?_
                rw [← hI1] at hbad
                exact hbad c50 (fun h => c76 (by have := h.1.2; rw [iN_nI (by omega)] at this; exact this)) _ pF2.rfl
              · skip
                refine x_aload_n 80 dX1_perform_79 rfl rfl ?_
                refine x_iload_n 81 dX1_perform_80 rfl rfl ?_
                refine x_iload_n 82 dX1_perform_81 rfl rfl ?_
                refine x_iload 84 dX1_perform_82 rfl rfl ?_
                refine x_iload 86 dX1_perform_84 rfl rfl ?_
                refine x_callV (as := [.int 10, .int va, .int vb, .int (nI ((iN (I 0 0 12))))]) (rest := []) (i := 0) (n' := n - 1) 89 dX1_perform_86 rfl mv_X1_499 rfl rfl (hT.ks.l0 (by omega)) (nh_perform (by omega)) (by omega) (xst (Nat.le_of_ble_eq_true rfl)) (c_X1_isGood_10 (I := kI I1 v.t) (va := va) (vb := vb) (e := (iN (I 0 0 12))) hT.ks (by omega) (by omega) ?_ ?_)
                · skip
                  intro hng I_ hF_
                  obtain ⟨Aa, rfl, hFa, hPS, h43⟩ := k_pF2 hF_
                  have hng : ¬ ((True) ∧ ∃ l, pParse (I 27 0) 0 (iN (I 0 0 12)) = some l ∧ pLast (I 27 0) l.length (lF l) (lG l)) := fun h => hng (by rw [show kI I1 v.t 27 0 = I 27 0 from tpI]; exact h)
                  change X _ _ _ _ _ _ _ _ _ _
                  refine x_if_ne 94 92 dX1_perform_89 (by decide) rfl (fun c89 => ?_) (fun c89 => ?_)
                  · skip
                    exfalso; revert c89; decide
                  · skip
                    refine x_iconst (v := -1) 93 dX1_perform_92 rfl rfl ?_
                    refine x_ireturn dX1_perform_93 rfl ?_
                    rw [← hI1] at hbad
                    exact hbad c50 (fun h => hng h.2) Aa hFa
                · skip
                  intro hnm l I_ hF_ hG hL
                  obtain ⟨Aa, rfl, hFa, hPS, h43⟩ := k_pF2 hF_
                  have hGa : pGot I1 Aa 0 0 (iN (I 0 0 12)) l := ⟨hG.1, hPS _ _ _ _ hG.2.1, (h43 0).trans hG.2.2⟩
                  have hL : pLast (I 27 0) l.length (lF l) (lG l) := by rw [show kI I1 v.t 27 0 = I 27 0 from tpI] at hL; exact hL
                  change X _ _ _ _ _ _ _ _ _ _
                  refine x_if_ne 94 92 dX1_perform_89 (by decide) rfl (fun c89 => ?_) (fun c89 => ?_)
                  · skip
                    rw [← hI1] at hgo
                    have hq := hgo c50 ⟨c63, by rw [hpe]; exact c76⟩ hnm l Aa hFa hGa hL
                    rw [hpe] at hq
                    unfold kMid at hq
                    have hKa : KI (Aa, R, th) x.N mm := ((show KI (I1, R, th) x.N mm by rw [hI1]; exact KI.u0s hK)).pf2 hFa
                    refine x_aload_n 95 dX1_perform_94 rfl rfl ?_
                    refine x_aload_n 96 dX1_perform_95 rfl rfl ?_
                    refine x_getz 99 dX1_perform_96 rfl fl_X1_39 (hT.ks.l0 (by omega)) (hT.ks.z0_8 (by omega)) ?_
                    refine x_iload_n 100 dX1_perform_99 rfl rfl ?_
                    refine x_aldz 101 dX1_perform_100 rfl ar_26 rfl (hT.ks.l26 (by omega)) (xb (hT.ks.n26 (by omega)) (by omega) (by omega)) (hT.ks.z26 (by omega)) ?_
                    refine x_asR ?_
                    refine x_putr 104 dX1_perform_101 rfl fl_X1_371 (Or.inl ⟨_, rfl⟩) (hT.ks.l0 (by omega)) (fun _ h => by cases h; exact (hT.ks.l9 (by omega))) ?_
                    refine k_nmC (v := v) (kR_xu (c := 0) rfl) fun R1 hR1 => ?_
                    refine x_aload_n 105 dX1_perform_104 rfl rfl ?_
                    refine x_gets 108 dX1_perform_105 rfl fl_X1_371 (hT.ks.l0 (by omega)) (show R1 0 0 19 = some p by rw [hR1]; exact xu_eq) ?_
                    refine x_geti 111 dX1_perform_108 rfl fl_X1_357 (hT.ks.l9 (by omega)) ?_
                    refine x_vi (w := Aa 9 p 10) rfl ?_
                    refine x_if_eq 125 114 dX1_perform_111 (by decide) rfl (fun c111 => ?_) (fun c111 => ?_)
                    · skip
                      rw [if_pos c111] at hq
                      refine x_aload_n 126 dX1_perform_125 rfl rfl ?_
                      refine x_gets 129 dX1_perform_126 rfl fl_X1_371 (hT.ks.l0 (by omega)) (show R1 0 0 19 = some p by rw [hR1]; exact xu_eq) ?_
                      refine x_geti 132 dX1_perform_129 rfl fl_X1_503 (hT.ks.l9 (by omega)) ?_
                      refine x_vi (w := Aa 9 p 11) rfl ?_
                      refine x_if_eq 150 135 dX1_perform_132 (by decide) rfl (fun c132 => ?_) (fun c132 => ?_)
                      · skip
                        rw [if_neg (fun h => h.2 c132)] at hq
                        refine x_aload_n 151 dX1_perform_150 rfl rfl ?_
                        refine x_aload_n 152 dX1_perform_151 rfl rfl ?_
                        refine x_gets 155 dX1_perform_152 rfl fl_X1_371 (hT.ks.l0 (by omega)) (show R1 0 0 19 = some p by rw [hR1]; exact xu_eq) ?_
                        refine x_callV (as := []) (rest := [.ref (x.ad 0 0)]) (i := p) (n' := n - 1) 158 dX1_perform_155 rfl mv_X1_231 rfl rfl (hT.ks.l9 (by omega)) (nh_perform (by omega)) (by omega) (xst (Nat.le_of_ble_eq_true rfl)) (c_X10_hasGroup hT.ks (by omega) (by omega) ?_)
                        change X _ _ _ _ _ _ _ _ _ _
                        refine x_vi (w := b2i (pGrp Aa p)) rfl ?_
                        refine x_if_ne 167 161 dX1_perform_158 (by decide) rfl (fun c158 => ?_) (fun c158 => ?_)
                        · skip
                          have c158 : pGrp Aa p := b2i_n0.mp c158
                          refine x_iload_n 168 dX1_perform_167 rfl rfl ?_
                          refine x_goto 173 dX1_perform_168 (by decide) ?_
                          refine x_puti 176 dX1_perform_173 rfl fl_X1_291 rfl rfl (hT.ks.l0 (by omega)) ?_
                          refine k_nmA (v := v) (kI_xu (c := 0) rfl) fun I2 hI2 => ?_
                          refine x_aload_n 177 dX1_perform_176 rfl rfl ?_
                          refine x_gets 180 dX1_perform_177 rfl fl_X1_371 (hT.ks.l0 (by omega)) (show R1 0 0 19 = some p by rw [hR1]; exact xu_eq) ?_
                          refine x_getz 183 dX1_perform_180 rfl fl_X1_246 (hT.ks.l9 (by omega)) (hT.ks.z9_4 (by omega)) ?_
                          refine x_iconst (v := 0) 184 dX1_perform_183 rfl rfl ?_
                          refine x_aload_n 185 dX1_perform_184 rfl rfl ?_
                          refine x_getz 188 dX1_perform_185 rfl fl_X1_64 (hT.ks.l0 (by omega)) (hT.ks.z0_20 (by omega)) ?_
                          refine x_iconst (v := 0) 189 dX1_perform_188 rfl rfl ?_
                          refine x_bipush (v := 8) 191 dX1_perform_189 rfl rfl ?_
                          refine x_copyr (sp := 0) (dp := 0) (m := 8) 194 dX1_perform_191 rfl cp_X1_148 ar_46 ar_29 ⟨by decide, _, _, _, rfl, rfl⟩ (hT.ks.l46 (by omega)) (hT.ks.l29 (by omega)) (by decide) (by omega) (xst (Nat.le_of_ble_eq_true rfl)) ⟨by omega, by omega, by omega⟩ (by rw [(hT.ks.n46 (by omega))]; omega) (by rw [(hT.ks.n29 (by omega))]; omega) (fun k_ j_ h_ _ => hT.ks.l7 (hKa.rf.me.row (show xu R 0 0 19 (some p) 46 p k_ = some j_ by rw [← hR1]; exact h_))) ?_
                          refine k_nmC (v := v) (C1 := xur R1 29 0 (va_cpy (R1 46 p) (R1 29 0) 0 0 8)) (kR_xur (c := 29) rfl) fun R2 hR2 => ?_
                          refine x_aload_n 195 dX1_perform_194 rfl rfl ?_
                          refine x_iconst (v := -1) 196 dX1_perform_195 rfl rfl ?_
                          refine x_puti 199 dX1_perform_196 rfl fl_X1_67 rfl rfl (hT.ks.l0 (by omega)) ?_
                          refine k_nmA (v := v) (kI_xu (c := 0) rfl) fun I3 hI3 => ?_
                          have ew : kWho Aa p false = nI p := by unfold kWho; rw [cif_t (Or.inl c158)]
                          have e3 : kS3 Aa R th p (kWho Aa p false) = (I3, R2, th) := by rw [ew]; unfold kS3; rw [hI3, hI2, hR2, hR1]
                          have hK3 : KI (I3, R2, th) x.N mm := by rw [← e3]; exact hKa.s3
                          have hme3 : R2 0 0 19 = some p := by have := kS3_me (A := Aa) (C := R) (th := th) (p := p) (w := kWho Aa p false); rw [e3] at this; exact this
                          rw [e3] at hq
                          dsimp only at hq
                          have hP3 : PS I3 0 l.length (lF l) (lG l) := by rw [hI3, hI2]; exact (hGa.2.1).u0.u0
                          have htp3 : I3 27 0 = I 27 0 := by rw [hI3, hI2, ← tpI]; funext j; rw [xu_c (by decide), xu_c (by decide)]; exact hFa 27 0 j (by omega) (by omega)
                          have h1 := hL.1
                          refine x_aload_n 200 dX1_perform_199 rfl rfl ?_
                          refine x_iload_n 201 dX1_perform_200 rfl rfl ?_
                          refine x_iload_n 202 dX1_perform_201 rfl rfl ?_
                          refine x_iload 204 dX1_perform_202 rfl rfl ?_
                          refine x_iload 206 dX1_perform_204 rfl rfl ?_
                          obtain ⟨r_, hd_⟩ : ∃ r : kQ, r = kDoRem x.N (I3, R2, th) p (I 27 0) (lF l) (lG l) l.length := ⟨_, rfl⟩
                          rw [← hd_] at hq
                          unfold kPf1 at hq
                          refine x_callVH (as := [.int 10, .int va, .int vb, .int (nI ((iN (I 0 0 12))))]) (rest := []) (i := 0) (n' := n - 1) 209 dX1_perform_206 rfl mv_X1_506 rfl rfl (hT.ks.l0 (by omega)) (hd_perform (by omega) (by omega)) (by omega) (xst (Nat.le_of_ble_eq_true rfl)) (c_X1_run_10 hT hK3 hP3 htp3 h1 (by omega) hme3 hp16 (by omega) (kOsN hd_ ⟨fun h99 => ?_, ⟨?_, ?_⟩⟩))
                          · skip
                            rw [if_pos h99] at hq
                            exact hq.1 h99
                          · skip
                            intro hz w1 hU1
                            change X _ _ _ _ _ _ _ _ _ _
                            rw [if_neg (by rw [hz]; decide)] at hq
                            obtain ⟨hok, hq⟩ := hq.as
                            rw [if_pos hz] at hq
                            refine x_fgt [(1, .ref (x.ad 0 0)), xo, xo, xo, xo, xo, xo, xo, xo] ⟨Or.inr rfl, Or.inl rfl, Or.inl rfl, Or.inl rfl, Or.inl rfl, Or.inl rfl, Or.inl rfl, Or.inl rfl, Or.inl rfl, trivial⟩ ?_
                            exact s209_pf (D := D) (Lg := Lg) hU1 hp16 hok (by omega) hq
                          · skip
                            intro hz w1 hU1
                            by_cases h9 : r_.1.1 = 99
                            · rw [if_pos h9] at hq; exact absurd h9 hq.1
                            · rw [if_neg h9] at hq
                              obtain ⟨hok, hq⟩ := hq.as
                              rw [if_neg hz] at hq
                              refine ⟨0, rfl, hU1.ks.l3 (by omega), ?_⟩
                              refine x_fgt [(1, .ref (x.ad 0 0)), xo, xo, xo, xo, xo, xo, xo, xo] ⟨Or.inr rfl, Or.inl rfl, Or.inl rfl, Or.inl rfl, Or.inl rfl, Or.inl rfl, Or.inl rfl, Or.inl rfl, Or.inl rfl, trivial⟩ ?_
                              exact s231_pf hU1 hp16 hok (by omega) hq
                        · skip
                          have c158 : ¬ (pGrp Aa p) := b2i_0.mp c158
                          refine x_iload_n 162 dX1_perform_161 rfl rfl ?_
                          refine x_bipush (v := 21) 164 dX1_perform_162 rfl rfl ?_
                          refine x_icmp_ne 171 167 dX1_perform_164 (by decide) rfl (fun c164 => ?_) (fun c164 => ?_)
                          · skip
                            refine x_bipush (v := 16) 173 dX1_perform_171 rfl rfl ?_
                            refine x_puti 176 dX1_perform_173 rfl fl_X1_291 rfl rfl (hT.ks.l0 (by omega)) ?_
                            refine k_nmA (v := v) (kI_xu (c := 0) rfl) fun I2 hI2 => ?_
                            refine x_aload_n 177 dX1_perform_176 rfl rfl ?_
                            refine x_gets 180 dX1_perform_177 rfl fl_X1_371 (hT.ks.l0 (by omega)) (show R1 0 0 19 = some p by rw [hR1]; exact xu_eq) ?_
                            refine x_getz 183 dX1_perform_180 rfl fl_X1_246 (hT.ks.l9 (by omega)) (hT.ks.z9_4 (by omega)) ?_
                            refine x_iconst (v := 0) 184 dX1_perform_183 rfl rfl ?_
                            refine x_aload_n 185 dX1_perform_184 rfl rfl ?_
                            refine x_getz 188 dX1_perform_185 rfl fl_X1_64 (hT.ks.l0 (by omega)) (hT.ks.z0_20 (by omega)) ?_
                            refine x_iconst (v := 0) 189 dX1_perform_188 rfl rfl ?_
                            refine x_bipush (v := 8) 191 dX1_perform_189 rfl rfl ?_
                            refine x_copyr (sp := 0) (dp := 0) (m := 8) 194 dX1_perform_191 rfl cp_X1_148 ar_46 ar_29 ⟨by decide, _, _, _, rfl, rfl⟩ (hT.ks.l46 (by omega)) (hT.ks.l29 (by omega)) (by decide) (by omega) (xst (Nat.le_of_ble_eq_true rfl)) ⟨by omega, by omega, by omega⟩ (by rw [(hT.ks.n46 (by omega))]; omega) (by rw [(hT.ks.n29 (by omega))]; omega) (fun k_ j_ h_ _ => hT.ks.l7 (hKa.rf.me.row (show xu R 0 0 19 (some p) 46 p k_ = some j_ by rw [← hR1]; exact h_))) ?_
                            refine k_nmC (v := v) (C1 := xur R1 29 0 (va_cpy (R1 46 p) (R1 29 0) 0 0 8)) (kR_xur (c := 29) rfl) fun R2 hR2 => ?_
                            refine x_aload_n 195 dX1_perform_194 rfl rfl ?_
                            refine x_iconst (v := -1) 196 dX1_perform_195 rfl rfl ?_
                            refine x_puti 199 dX1_perform_196 rfl fl_X1_67 rfl rfl (hT.ks.l0 (by omega)) ?_
                            refine k_nmA (v := v) (kI_xu (c := 0) rfl) fun I3 hI3 => ?_
                            have ew : kWho Aa p false = 16 := by unfold kWho; rw [cif_f (fun h => h.elim c158 (fun g => by cases g))]
                            have e3 : kS3 Aa R th p (kWho Aa p false) = (I3, R2, th) := by rw [ew]; unfold kS3; rw [hI3, hI2, hR2, hR1]
                            have hK3 : KI (I3, R2, th) x.N mm := by rw [← e3]; exact hKa.s3
                            have hme3 : R2 0 0 19 = some p := by have := kS3_me (A := Aa) (C := R) (th := th) (p := p) (w := kWho Aa p false); rw [e3] at this; exact this
                            rw [e3] at hq
                            dsimp only at hq
                            have hP3 : PS I3 0 l.length (lF l) (lG l) := by rw [hI3, hI2]; exact (hGa.2.1).u0.u0
                            have htp3 : I3 27 0 = I 27 0 := by rw [hI3, hI2, ← tpI]; funext j; rw [xu_c (by decide), xu_c (by decide)]; exact hFa 27 0 j (by omega) (by omega)
                            have h1 := hL.1
                            refine x_aload_n 200 dX1_perform_199 rfl rfl ?_
                            refine x_iload_n 201 dX1_perform_200 rfl rfl ?_
                            refine x_iload_n 202 dX1_perform_201 rfl rfl ?_
                            refine x_iload 204 dX1_perform_202 rfl rfl ?_
                            refine x_iload 206 dX1_perform_204 rfl rfl ?_
                            obtain ⟨r_, hd_⟩ : ∃ r : kQ, r = kDoRem x.N (I3, R2, th) p (I 27 0) (lF l) (lG l) l.length := ⟨_, rfl⟩
                            rw [← hd_] at hq
                            unfold kPf1 at hq
                            refine x_callVH (as := [.int 10, .int va, .int vb, .int (nI ((iN (I 0 0 12))))]) (rest := []) (i := 0) (n' := n - 1) 209 dX1_perform_206 rfl mv_X1_506 rfl rfl (hT.ks.l0 (by omega)) (hd_perform (by omega) (by omega)) (by omega) (xst (Nat.le_of_ble_eq_true rfl)) (c_X1_run_10 hT hK3 hP3 htp3 h1 (by omega) hme3 hp16 (by omega) (kOsN hd_ ⟨fun h99 => ?_, ⟨?_, ?_⟩⟩))
                            · skip
                              rw [if_pos h99] at hq
                              exact hq.1 h99
                            · skip
                              intro hz w1 hU1
                              change X _ _ _ _ _ _ _ _ _ _
                              rw [if_neg (by rw [hz]; decide)] at hq
                              obtain ⟨hok, hq⟩ := hq.as
                              rw [if_pos hz] at hq
                              refine x_fgt [(1, .ref (x.ad 0 0)), xo, xo, xo, xo, xo, xo, xo, xo] ⟨Or.inr rfl, Or.inl rfl, Or.inl rfl, Or.inl rfl, Or.inl rfl, Or.inl rfl, Or.inl rfl, Or.inl rfl, Or.inl rfl, trivial⟩ ?_
                              exact s209_pf (D := D) (Lg := Lg) hU1 hp16 hok (by omega) hq
                            · skip
                              intro hz w1 hU1
                              by_cases h9 : r_.1.1 = 99
                              · rw [if_pos h9] at hq; exact absurd h9 hq.1
                              · rw [if_neg h9] at hq
                                obtain ⟨hok, hq⟩ := hq.as
                                rw [if_neg hz] at hq
                                refine ⟨0, rfl, hU1.ks.l3 (by omega), ?_⟩
                                refine x_fgt [(1, .ref (x.ad 0 0)), xo, xo, xo, xo, xo, xo, xo, xo] ⟨Or.inr rfl, Or.inl rfl, Or.inl rfl, Or.inl rfl, Or.inl rfl, Or.inl rfl, Or.inl rfl, Or.inl rfl, Or.inl rfl, trivial⟩ ?_
                                exact s231_pf hU1 hp16 hok (by omega) hq
                          · skip
                            exfalso; revert c164; decide
                      · skip
                        refine x_iload_n 136 dX1_perform_135 rfl rfl ?_
                        refine x_bipush (v := 22) 138 dX1_perform_136 rfl rfl ?_
                        refine x_icmp_eq 150 141 dX1_perform_138 (by decide) rfl (fun c138 => ?_) (fun c138 => ?_)
                        · skip
                          exfalso; revert c138; decide
                        · skip
                          refine x_iload_n 142 dX1_perform_141 rfl rfl ?_
                          refine x_bipush (v := 23) 144 dX1_perform_142 rfl rfl ?_
                          refine x_icmp_eq 150 147 dX1_perform_144 (by decide) rfl (fun c144 => ?_) (fun c144 => ?_)
                          · skip
                            exfalso; revert c144; decide
                          · skip
                            refine x_bipush (v := -5) 149 dX1_perform_147 rfl rfl ?_
                            refine x_ireturn dX1_perform_149 rfl ?_
                            rw [if_pos ⟨rfl, c132⟩] at hq
                            rw [hR1]
                            exact hq.ret3 hT
                    · skip
                      refine x_aload_n 115 dX1_perform_114 rfl rfl ?_
                      refine x_gets 118 dX1_perform_115 rfl fl_X1_371 (hT.ks.l0 (by omega)) (show R1 0 0 19 = some p by rw [hR1]; exact xu_eq) ?_
                      refine x_iconst (v := 0) 119 dX1_perform_118 rfl rfl ?_
                      refine x_puti 122 dX1_perform_119 rfl fl_X1_357 rfl rfl (hT.ks.l9 (by omega)) ?_
                      refine k_nmA (v := v) (kI_xu (c := 9) rfl) fun I2 hI2 => ?_
                      refine x_bipush (v := -9) 124 dX1_perform_122 rfl rfl ?_
                      refine x_ireturn dX1_perform_124 rfl ?_
                      rw [if_neg c111] at hq
                      rw [hI2, hR1]
                      exact hq.ret3 hT
                  · skip
                    exfalso; revert c89; decide
          · skip
            refine x_bipush (v := -14) 55 dX1_perform_53 rfl rfl ?_
            refine x_ireturn dX1_perform_55 rfl ?_
            rw [← hI1] at hdn
            exact hdn c50
set_option maxHeartbeats 400000 in
set_option maxRecDepth 100000 in
theorem c_X1_perform_11 {G : xG} {n : Nat} {Q : Outcome → xS → Prop} {x : kX} {I : xI} {R : xR} {v : kV} {th : List xTh} {mm : Nat} (hT : KT x v th) (hK : KI (I, R, th) x.N mm) {D Lg : Nat} {pp va vb : Int32} (hmm : mm + 300 < 16384) (hn : 18 ≤ n) (hdn : ¬ (xu I 0 0 12 0) 5 0 7 = 0 → Q (.returned (some (.int (-14)))) (kS (xu I 0 0 12 0) R x v)) (hbad : (xu I 0 0 12 0) 5 0 7 = 0 → (¬ (kLv (xu I 0 0 12 0) pp ∧ (∃ l l2, kTwoP (I 27 0) (iN (I 0 0 12)) l l2 ∧ pLast (I 27 0) l2.length (lF l2) (lG l2)))) → ∀ A', pF2 (xu I 0 0 12 0) A' → Q (.returned (some (.int (-1)))) (kS A' R x v)) (hgo : (xu I 0 0 12 0) 5 0 7 = 0 → kLv (xu I 0 0 12 0) pp → ∀ l l2 A', pF2 (xu I 0 0 12 0) A' → kGot2 (xu I 0 0 12 0) A' (iN (I 0 0 12)) l l2 → pLast (I 27 0) l2.length (lF l2) (lG l2) → kOs Q x (kMid x.N x.B D Lg (iN pp) true (kWho A' (iN pp) false) A' R th (fun s => kDoLink x.N s (iN pp) (I 27 0) (lF l) (lG l) l.length (lF l2) (lG l2) l2.length))) : xCall G mX1_perform n [.ref (x.ad 0 0), .int pp, .int 11, .int va, .int vb] (kS I R x v) Q := by
  refine x_met (L0 := [(1, .ref (x.ad 0 0)), (1, .int pp), (1, .int 11), (1, .int va), (1, .int vb), xo, xo, xo, xo]) (by decide +kernel) rfl ⟨Nat.le_of_ble_eq_true rfl, rfl⟩ ?_
  have hnb := hT.ks.nb
  have hsz2 := hK.wf.sz.2
  refine x_aload_n 1 dX1_perform_0 rfl rfl ?_
  refine x_geti 4 dX1_perform_1 rfl fl_X1_219 (hT.ks.l0 (by omega)) ?_
  refine x_vi (w := I 0 0 12) rfl ?_
  refine x_vi (w := nI ((iN (I 0 0 12)))) hK.wf.sz.1 ?_
  refine x_istore 6 [(1, .ref (x.ad 0 0)), (1, .int pp), (1, .int 11), (1, .int va), (1, .int vb), (1, .int (nI ((iN (I 0 0 12))))), xo, xo, xo] dX1_perform_4 rfl (by decide) rfl ?_
  refine x_iload_n 7 dX1_perform_6 rfl rfl ?_
  refine x_if_eq 26 10 dX1_perform_7 (by decide) rfl (fun c7 => ?_) (fun c7 => ?_)
  · skip
    exfalso; revert c7; decide
  · skip
    refine x_iload_n 11 dX1_perform_10 rfl rfl ?_
    refine x_iconst (v := 3) 12 dX1_perform_11 rfl rfl ?_
    refine x_icmp_eq 26 15 dX1_perform_12 (by decide) rfl (fun c12 => ?_) (fun c12 => ?_)
    · skip
      exfalso; revert c12; decide
    · skip
      refine x_iload_n 16 dX1_perform_15 rfl rfl ?_
      refine x_bipush (v := 8) 18 dX1_perform_16 rfl rfl ?_
      refine x_bipush (v := 15) 20 dX1_perform_18 rfl rfl ?_
      refine x_callS (as := [.int 11, .int 8, .int 15]) (rest := []) (n' := n - 1) 23 dX1_perform_20 rfl ms_X1_211 rfl rfl (nh_perform (by omega)) (by omega) (xst (Nat.le_of_ble_eq_true rfl)) (c_X1_isIn (by omega) ?_)
      change X _ _ _ _ _ _ _ _ _ _
      refine x_vi (w := b2i ((8 : Int32) ≤ (11 : Int32) ∧ (11 : Int32) ≤ (15 : Int32))) rfl ?_
      refine x_if_eq 30 26 dX1_perform_23 (by decide) rfl (fun c23 => ?_) (fun c23 => ?_)
      · skip
        have c23 : ¬ ((8 : Int32) ≤ (11 : Int32) ∧ (11 : Int32) ≤ (15 : Int32)) := b2i_0.mp c23
        exact absurd (by decide) c23
      · skip
        have c23 : (8 : Int32) ≤ (11 : Int32) ∧ (11 : Int32) ≤ (15 : Int32) := b2i_n0.mp c23
        refine x_iconst (v := 1) 27 dX1_perform_26 rfl rfl ?_
        refine x_goto 31 dX1_perform_27 (by decide) ?_
        refine x_istore 33 [(1, .ref (x.ad 0 0)), (1, .int pp), (1, .int 11), (1, .int va), (1, .int vb), (1, .int (nI ((iN (I 0 0 12))))), (1, .int 1), xo, xo] dX1_perform_31 rfl (by decide) rfl ?_
        refine x_iload 35 dX1_perform_33 rfl rfl ?_
        refine x_if_eq 43 38 dX1_perform_35 (by decide) rfl (fun c35 => ?_) (fun c35 => ?_)
        · skip
          exfalso; revert c35; decide
        · skip
          refine x_aload_n 39 dX1_perform_38 rfl rfl ?_
          refine x_iconst (v := 0) 40 dX1_perform_39 rfl rfl ?_
          refine x_puti 43 dX1_perform_40 rfl fl_X1_219 rfl rfl (hT.ks.l0 (by omega)) ?_
          refine k_nmA (v := v) (kI_xu (c := 0) rfl) fun I1 hI1 => ?_
          refine x_aload_n 44 dX1_perform_43 rfl rfl ?_
          refine x_getz 47 dX1_perform_44 rfl fl_X1_92 (hT.ks.l0 (by omega)) (hT.ks.z0_0 (by omega)) ?_
          refine x_geti 50 dX1_perform_47 rfl fl_X1_160 (hT.ks.l5 (by omega)) ?_
          refine x_vi (w := I1 5 0 7) rfl ?_
          refine x_if_eq 56 53 dX1_perform_50 (by decide) rfl (fun c50 => ?_) (fun c50 => ?_)
          · skip
            refine x_iload_n 57 dX1_perform_56 rfl rfl ?_
            refine x_iconst (v := 0) 58 dX1_perform_57 rfl rfl ?_
            refine x_bipush (v := 15) 60 dX1_perform_58 rfl rfl ?_
            refine x_callS (as := [.int pp, .int 0, .int 15]) (rest := []) (n' := n - 1) 63 dX1_perform_60 rfl ms_X1_211 rfl rfl (nh_perform (by omega)) (by omega) (xst (Nat.le_of_ble_eq_true rfl)) (c_X1_isIn (by omega) ?_)
            change X _ _ _ _ _ _ _ _ _ _
            refine x_vi (w := b2i ((0 : Int32) ≤ pp ∧ pp ≤ (15 : Int32))) rfl ?_
            refine x_if_eq 92 66 dX1_perform_63 (by decide) rfl (fun c63 => ?_) (fun c63 => ?_)
            · skip
              have c63 : ¬ ((0 : Int32) ≤ pp ∧ pp ≤ (15 : Int32)) := b2i_0.mp c63
              refine x_iconst (v := -1) 93 dX1_perform_92 rfl rfl ?_
              refine x_ireturn dX1_perform_93 rfl ?_
              rw [← hI1] at hbad
              exact hbad c50 (fun h => c63 h.1.1) _ pF2.rfl
            · skip
              have c63 : (0 : Int32) ≤ pp ∧ pp ≤ (15 : Int32) := b2i_n0.mp c63
              obtain ⟨p, hp15, rfl⟩ := ppn (m := 15) (by omega) c63
              have hp16 : p < 16 := by omega
              have hpe : iN (nI p) = p := iN_nI (by omega)
              have tpI : I1 27 0 = I 27 0 := by rw [hI1]; funext j; exact xu_c (by decide)
              have he := hK.wf.sz.2
              refine x_aload_n 67 dX1_perform_66 rfl rfl ?_
              refine x_getz 70 dX1_perform_67 rfl fl_X1_39 (hT.ks.l0 (by omega)) (hT.ks.z0_8 (by omega)) ?_
              refine x_iload_n 71 dX1_perform_70 rfl rfl ?_
              refine x_aldz 72 dX1_perform_71 rfl ar_26 rfl (hT.ks.l26 (by omega)) (xb (hT.ks.n26 (by omega)) (by omega) (by omega)) (hT.ks.z26 (by omega)) ?_
              refine x_geti 75 dX1_perform_72 rfl fl_X1_208 (hT.ks.l9 (by omega)) ?_
              refine x_vi (w := I1 9 p 1) rfl ?_
              refine x_iconst (v := 1) 76 dX1_perform_75 rfl rfl ?_
              refine x_icmp_ne 92 79 dX1_perform_76 (by decide) rfl (fun c76 => ?_) (fun c76 => ?_)
              · skip
                refine x_iconst (v := -1) 93 dX1_perform_92 rfl rfl ?_
                refine x_ireturn dX1_perform_93 rfl ?_
                rw [← hI1] at hbad
                exact hbad c50 (fun h => c76 (by have := h.1.2; rw [iN_nI (by omega)] at this; exact this)) _ pF2.rfl
              · skip
                refine x_aload_n 80 dX1_perform_79 rfl rfl ?_
                refine x_iload_n 81 dX1_perform_80 rfl rfl ?_
                refine x_iload_n 82 dX1_perform_81 rfl rfl ?_
                refine x_iload 84 dX1_perform_82 rfl rfl ?_
                refine x_iload 86 dX1_perform_84 rfl rfl ?_
                refine x_callV (as := [.int 11, .int va, .int vb, .int (nI ((iN (I 0 0 12))))]) (rest := []) (i := 0) (n' := n - 1) 89 dX1_perform_86 rfl mv_X1_499 rfl rfl (hT.ks.l0 (by omega)) (nh_perform (by omega)) (by omega) (xst (Nat.le_of_ble_eq_true rfl)) (c_X1_isGood_11 (I := kI I1 v.t) (va := va) (vb := vb) (e := (iN (I 0 0 12))) hT.ks (by omega) (by omega) ?_ ?_)
                · skip
                  intro hng I_ hF_
                  obtain ⟨Aa, rfl, hFa, hPS, h43⟩ := k_pF2 hF_
                  have hng : ¬ (∃ l l2, kTwoP (I 27 0) (iN (I 0 0 12)) l l2 ∧ pLast (I 27 0) l2.length (lF l2) (lG l2)) := fun h => hng (by rw [show kI I1 v.t 27 0 = I 27 0 from tpI]; exact h)
                  change X _ _ _ _ _ _ _ _ _ _
                  refine x_if_ne 94 92 dX1_perform_89 (by decide) rfl (fun c89 => ?_) (fun c89 => ?_)
                  · skip
                    exfalso; revert c89; decide
                  · skip
                    refine x_iconst (v := -1) 93 dX1_perform_92 rfl rfl ?_
                    refine x_ireturn dX1_perform_93 rfl ?_
                    rw [← hI1] at hbad
                    exact hbad c50 (fun h => hng h.2) Aa hFa
                · skip
                  intro l l2 I_ hF_ hG hL
                  obtain ⟨Aa, rfl, hFa, hPS, h43⟩ := k_pF2 hF_
                  have hGa : kGot2 I1 Aa (iN (I 0 0 12)) l l2 := ⟨hG.1, ⟨hG.2.1.1, hPS _ _ _ _ hG.2.1.2.1, (h43 0).trans hG.2.1.2.2⟩, ⟨hG.2.2.1, hPS _ _ _ _ hG.2.2.2.1, (h43 1).trans hG.2.2.2.2⟩⟩
                  have hL : pLast (I 27 0) l2.length (lF l2) (lG l2) := by rw [show kI I1 v.t 27 0 = I 27 0 from tpI] at hL; exact hL
                  change X _ _ _ _ _ _ _ _ _ _
                  refine x_if_ne 94 92 dX1_perform_89 (by decide) rfl (fun c89 => ?_) (fun c89 => ?_)
                  · skip
                    rw [← hI1] at hgo
                    have hq := hgo c50 ⟨c63, by rw [hpe]; exact c76⟩ l l2 Aa hFa hGa hL
                    rw [hpe] at hq
                    unfold kMid at hq
                    have hKa : KI (Aa, R, th) x.N mm := ((show KI (I1, R, th) x.N mm by rw [hI1]; exact KI.u0s hK)).pf2 hFa
                    refine x_aload_n 95 dX1_perform_94 rfl rfl ?_
                    refine x_aload_n 96 dX1_perform_95 rfl rfl ?_
                    refine x_getz 99 dX1_perform_96 rfl fl_X1_39 (hT.ks.l0 (by omega)) (hT.ks.z0_8 (by omega)) ?_
                    refine x_iload_n 100 dX1_perform_99 rfl rfl ?_
                    refine x_aldz 101 dX1_perform_100 rfl ar_26 rfl (hT.ks.l26 (by omega)) (xb (hT.ks.n26 (by omega)) (by omega) (by omega)) (hT.ks.z26 (by omega)) ?_
                    refine x_asR ?_
                    refine x_putr 104 dX1_perform_101 rfl fl_X1_371 (Or.inl ⟨_, rfl⟩) (hT.ks.l0 (by omega)) (fun _ h => by cases h; exact (hT.ks.l9 (by omega))) ?_
                    refine k_nmC (v := v) (kR_xu (c := 0) rfl) fun R1 hR1 => ?_
                    refine x_aload_n 105 dX1_perform_104 rfl rfl ?_
                    refine x_gets 108 dX1_perform_105 rfl fl_X1_371 (hT.ks.l0 (by omega)) (show R1 0 0 19 = some p by rw [hR1]; exact xu_eq) ?_
                    refine x_geti 111 dX1_perform_108 rfl fl_X1_357 (hT.ks.l9 (by omega)) ?_
                    refine x_vi (w := Aa 9 p 10) rfl ?_
                    refine x_if_eq 125 114 dX1_perform_111 (by decide) rfl (fun c111 => ?_) (fun c111 => ?_)
                    · skip
                      rw [if_pos c111] at hq
                      refine x_aload_n 126 dX1_perform_125 rfl rfl ?_
                      refine x_gets 129 dX1_perform_126 rfl fl_X1_371 (hT.ks.l0 (by omega)) (show R1 0 0 19 = some p by rw [hR1]; exact xu_eq) ?_
                      refine x_geti 132 dX1_perform_129 rfl fl_X1_503 (hT.ks.l9 (by omega)) ?_
                      refine x_vi (w := Aa 9 p 11) rfl ?_
                      refine x_if_eq 150 135 dX1_perform_132 (by decide) rfl (fun c132 => ?_) (fun c132 => ?_)
                      · skip
                        rw [if_neg (fun h => h.2 c132)] at hq
                        refine x_aload_n 151 dX1_perform_150 rfl rfl ?_
                        refine x_aload_n 152 dX1_perform_151 rfl rfl ?_
                        refine x_gets 155 dX1_perform_152 rfl fl_X1_371 (hT.ks.l0 (by omega)) (show R1 0 0 19 = some p by rw [hR1]; exact xu_eq) ?_
                        refine x_callV (as := []) (rest := [.ref (x.ad 0 0)]) (i := p) (n' := n - 1) 158 dX1_perform_155 rfl mv_X1_231 rfl rfl (hT.ks.l9 (by omega)) (nh_perform (by omega)) (by omega) (xst (Nat.le_of_ble_eq_true rfl)) (c_X10_hasGroup hT.ks (by omega) (by omega) ?_)
                        change X _ _ _ _ _ _ _ _ _ _
                        refine x_vi (w := b2i (pGrp Aa p)) rfl ?_
                        refine x_if_ne 167 161 dX1_perform_158 (by decide) rfl (fun c158 => ?_) (fun c158 => ?_)
                        · skip
                          have c158 : pGrp Aa p := b2i_n0.mp c158
                          refine x_iload_n 168 dX1_perform_167 rfl rfl ?_
                          refine x_goto 173 dX1_perform_168 (by decide) ?_
                          refine x_puti 176 dX1_perform_173 rfl fl_X1_291 rfl rfl (hT.ks.l0 (by omega)) ?_
                          refine k_nmA (v := v) (kI_xu (c := 0) rfl) fun I2 hI2 => ?_
                          refine x_aload_n 177 dX1_perform_176 rfl rfl ?_
                          refine x_gets 180 dX1_perform_177 rfl fl_X1_371 (hT.ks.l0 (by omega)) (show R1 0 0 19 = some p by rw [hR1]; exact xu_eq) ?_
                          refine x_getz 183 dX1_perform_180 rfl fl_X1_246 (hT.ks.l9 (by omega)) (hT.ks.z9_4 (by omega)) ?_
                          refine x_iconst (v := 0) 184 dX1_perform_183 rfl rfl ?_
                          refine x_aload_n 185 dX1_perform_184 rfl rfl ?_
                          refine x_getz 188 dX1_perform_185 rfl fl_X1_64 (hT.ks.l0 (by omega)) (hT.ks.z0_20 (by omega)) ?_
                          refine x_iconst (v := 0) 189 dX1_perform_188 rfl rfl ?_
                          refine x_bipush (v := 8) 191 dX1_perform_189 rfl rfl ?_
                          refine x_copyr (sp := 0) (dp := 0) (m := 8) 194 dX1_perform_191 rfl cp_X1_148 ar_46 ar_29 ⟨by decide, _, _, _, rfl, rfl⟩ (hT.ks.l46 (by omega)) (hT.ks.l29 (by omega)) (by decide) (by omega) (xst (Nat.le_of_ble_eq_true rfl)) ⟨by omega, by omega, by omega⟩ (by rw [(hT.ks.n46 (by omega))]; omega) (by rw [(hT.ks.n29 (by omega))]; omega) (fun k_ j_ h_ _ => hT.ks.l7 (hKa.rf.me.row (show xu R 0 0 19 (some p) 46 p k_ = some j_ by rw [← hR1]; exact h_))) ?_
                          refine k_nmC (v := v) (C1 := xur R1 29 0 (va_cpy (R1 46 p) (R1 29 0) 0 0 8)) (kR_xur (c := 29) rfl) fun R2 hR2 => ?_
                          refine x_aload_n 195 dX1_perform_194 rfl rfl ?_
                          refine x_iconst (v := -1) 196 dX1_perform_195 rfl rfl ?_
                          refine x_puti 199 dX1_perform_196 rfl fl_X1_67 rfl rfl (hT.ks.l0 (by omega)) ?_
                          refine k_nmA (v := v) (kI_xu (c := 0) rfl) fun I3 hI3 => ?_
                          have ew : kWho Aa p false = nI p := by unfold kWho; rw [cif_t (Or.inl c158)]
                          have e3 : kS3 Aa R th p (kWho Aa p false) = (I3, R2, th) := by rw [ew]; unfold kS3; rw [hI3, hI2, hR2, hR1]
                          have hK3 : KI (I3, R2, th) x.N mm := by rw [← e3]; exact hKa.s3
                          have hme3 : R2 0 0 19 = some p := by have := kS3_me (A := Aa) (C := R) (th := th) (p := p) (w := kWho Aa p false); rw [e3] at this; exact this
                          rw [e3] at hq
                          dsimp only at hq
                          have hP3 : PS I3 0 l.length (lF l) (lG l) := by rw [hI3, hI2]; exact (hGa.2.1.2.1).u0.u0
                          have htp3 : I3 27 0 = I 27 0 := by rw [hI3, hI2, ← tpI]; funext j; rw [xu_c (by decide), xu_c (by decide)]; exact hFa 27 0 j (by omega) (by omega)
                          have hP32 : PS I3 1 l2.length (lF l2) (lG l2) := by rw [hI3, hI2]; exact (hGa.2.2.2.1).u0.u0
                          have h1 := hL.1
                          refine x_aload_n 200 dX1_perform_199 rfl rfl ?_
                          refine x_iload_n 201 dX1_perform_200 rfl rfl ?_
                          refine x_iload_n 202 dX1_perform_201 rfl rfl ?_
                          refine x_iload 204 dX1_perform_202 rfl rfl ?_
                          refine x_iload 206 dX1_perform_204 rfl rfl ?_
                          obtain ⟨r_, hd_⟩ : ∃ r : kQ, r = kDoLink x.N (I3, R2, th) p (I 27 0) (lF l) (lG l) l.length (lF l2) (lG l2) l2.length := ⟨_, rfl⟩
                          rw [← hd_] at hq
                          unfold kPf1 at hq
                          refine x_callVH (as := [.int 11, .int va, .int vb, .int (nI ((iN (I 0 0 12))))]) (rest := []) (i := 0) (n' := n - 1) 209 dX1_perform_206 rfl mv_X1_506 rfl rfl (hT.ks.l0 (by omega)) (hd_perform (by omega) (by omega)) (by omega) (xst (Nat.le_of_ble_eq_true rfl)) (c_X1_run_11 hT hK3 hP3 htp3 hP32 h1 (by omega) hme3 hp16 (by omega) (kOsN hd_ ⟨fun h99 => ?_, ⟨?_, ?_⟩⟩))
                          · skip
                            rw [if_pos h99] at hq
                            exact hq.1 h99
                          · skip
                            intro hz w1 hU1
                            change X _ _ _ _ _ _ _ _ _ _
                            rw [if_neg (by rw [hz]; decide)] at hq
                            obtain ⟨hok, hq⟩ := hq.as
                            rw [if_pos hz] at hq
                            refine x_fgt [(1, .ref (x.ad 0 0)), xo, xo, xo, xo, xo, xo, xo, xo] ⟨Or.inr rfl, Or.inl rfl, Or.inl rfl, Or.inl rfl, Or.inl rfl, Or.inl rfl, Or.inl rfl, Or.inl rfl, Or.inl rfl, trivial⟩ ?_
                            exact s209_pf (D := D) (Lg := Lg) hU1 hp16 hok (by omega) hq
                          · skip
                            intro hz w1 hU1
                            by_cases h9 : r_.1.1 = 99
                            · rw [if_pos h9] at hq; exact absurd h9 hq.1
                            · rw [if_neg h9] at hq
                              obtain ⟨hok, hq⟩ := hq.as
                              rw [if_neg hz] at hq
                              refine ⟨0, rfl, hU1.ks.l3 (by omega), ?_⟩
                              refine x_fgt [(1, .ref (x.ad 0 0)), xo, xo, xo, xo, xo, xo, xo, xo] ⟨Or.inr rfl, Or.inl rfl, Or.inl rfl, Or.inl rfl, Or.inl rfl, Or.inl rfl, Or.inl rfl, Or.inl rfl, Or.inl rfl, trivial⟩ ?_
                              exact s231_pf hU1 hp16 hok (by omega) hq
                        · skip
                          have c158 : ¬ (pGrp Aa p) := b2i_0.mp c158
                          refine x_iload_n 162 dX1_perform_161 rfl rfl ?_
                          refine x_bipush (v := 21) 164 dX1_perform_162 rfl rfl ?_
                          refine x_icmp_ne 171 167 dX1_perform_164 (by decide) rfl (fun c164 => ?_) (fun c164 => ?_)
                          · skip
                            refine x_bipush (v := 16) 173 dX1_perform_171 rfl rfl ?_
                            refine x_puti 176 dX1_perform_173 rfl fl_X1_291 rfl rfl (hT.ks.l0 (by omega)) ?_
                            refine k_nmA (v := v) (kI_xu (c := 0) rfl) fun I2 hI2 => ?_
                            refine x_aload_n 177 dX1_perform_176 rfl rfl ?_
                            refine x_gets 180 dX1_perform_177 rfl fl_X1_371 (hT.ks.l0 (by omega)) (show R1 0 0 19 = some p by rw [hR1]; exact xu_eq) ?_
                            refine x_getz 183 dX1_perform_180 rfl fl_X1_246 (hT.ks.l9 (by omega)) (hT.ks.z9_4 (by omega)) ?_
                            refine x_iconst (v := 0) 184 dX1_perform_183 rfl rfl ?_
                            refine x_aload_n 185 dX1_perform_184 rfl rfl ?_
                            refine x_getz 188 dX1_perform_185 rfl fl_X1_64 (hT.ks.l0 (by omega)) (hT.ks.z0_20 (by omega)) ?_
                            refine x_iconst (v := 0) 189 dX1_perform_188 rfl rfl ?_
                            refine x_bipush (v := 8) 191 dX1_perform_189 rfl rfl ?_
                            refine x_copyr (sp := 0) (dp := 0) (m := 8) 194 dX1_perform_191 rfl cp_X1_148 ar_46 ar_29 ⟨by decide, _, _, _, rfl, rfl⟩ (hT.ks.l46 (by omega)) (hT.ks.l29 (by omega)) (by decide) (by omega) (xst (Nat.le_of_ble_eq_true rfl)) ⟨by omega, by omega, by omega⟩ (by rw [(hT.ks.n46 (by omega))]; omega) (by rw [(hT.ks.n29 (by omega))]; omega) (fun k_ j_ h_ _ => hT.ks.l7 (hKa.rf.me.row (show xu R 0 0 19 (some p) 46 p k_ = some j_ by rw [← hR1]; exact h_))) ?_
                            refine k_nmC (v := v) (C1 := xur R1 29 0 (va_cpy (R1 46 p) (R1 29 0) 0 0 8)) (kR_xur (c := 29) rfl) fun R2 hR2 => ?_
                            refine x_aload_n 195 dX1_perform_194 rfl rfl ?_
                            refine x_iconst (v := -1) 196 dX1_perform_195 rfl rfl ?_
                            refine x_puti 199 dX1_perform_196 rfl fl_X1_67 rfl rfl (hT.ks.l0 (by omega)) ?_
                            refine k_nmA (v := v) (kI_xu (c := 0) rfl) fun I3 hI3 => ?_
                            have ew : kWho Aa p false = 16 := by unfold kWho; rw [cif_f (fun h => h.elim c158 (fun g => by cases g))]
                            have e3 : kS3 Aa R th p (kWho Aa p false) = (I3, R2, th) := by rw [ew]; unfold kS3; rw [hI3, hI2, hR2, hR1]
                            have hK3 : KI (I3, R2, th) x.N mm := by rw [← e3]; exact hKa.s3
                            have hme3 : R2 0 0 19 = some p := by have := kS3_me (A := Aa) (C := R) (th := th) (p := p) (w := kWho Aa p false); rw [e3] at this; exact this
                            rw [e3] at hq
                            dsimp only at hq
                            have hP3 : PS I3 0 l.length (lF l) (lG l) := by rw [hI3, hI2]; exact (hGa.2.1.2.1).u0.u0
                            have htp3 : I3 27 0 = I 27 0 := by rw [hI3, hI2, ← tpI]; funext j; rw [xu_c (by decide), xu_c (by decide)]; exact hFa 27 0 j (by omega) (by omega)
                            have hP32 : PS I3 1 l2.length (lF l2) (lG l2) := by rw [hI3, hI2]; exact (hGa.2.2.2.1).u0.u0
                            have h1 := hL.1
                            refine x_aload_n 200 dX1_perform_199 rfl rfl ?_
                            refine x_iload_n 201 dX1_perform_200 rfl rfl ?_
                            refine x_iload_n 202 dX1_perform_201 rfl rfl ?_
                            refine x_iload 204 dX1_perform_202 rfl rfl ?_
                            refine x_iload 206 dX1_perform_204 rfl rfl ?_
                            obtain ⟨r_, hd_⟩ : ∃ r : kQ, r = kDoLink x.N (I3, R2, th) p (I 27 0) (lF l) (lG l) l.length (lF l2) (lG l2) l2.length := ⟨_, rfl⟩
                            rw [← hd_] at hq
                            unfold kPf1 at hq
                            refine x_callVH (as := [.int 11, .int va, .int vb, .int (nI ((iN (I 0 0 12))))]) (rest := []) (i := 0) (n' := n - 1) 209 dX1_perform_206 rfl mv_X1_506 rfl rfl (hT.ks.l0 (by omega)) (hd_perform (by omega) (by omega)) (by omega) (xst (Nat.le_of_ble_eq_true rfl)) (c_X1_run_11 hT hK3 hP3 htp3 hP32 h1 (by omega) hme3 hp16 (by omega) (kOsN hd_ ⟨fun h99 => ?_, ⟨?_, ?_⟩⟩))
                            · skip
                              rw [if_pos h99] at hq
                              exact hq.1 h99
                            · skip
                              intro hz w1 hU1
                              change X _ _ _ _ _ _ _ _ _ _
                              rw [if_neg (by rw [hz]; decide)] at hq
                              obtain ⟨hok, hq⟩ := hq.as
                              rw [if_pos hz] at hq
                              refine x_fgt [(1, .ref (x.ad 0 0)), xo, xo, xo, xo, xo, xo, xo, xo] ⟨Or.inr rfl, Or.inl rfl, Or.inl rfl, Or.inl rfl, Or.inl rfl, Or.inl rfl, Or.inl rfl, Or.inl rfl, Or.inl rfl, trivial⟩ ?_
                              exact s209_pf (D := D) (Lg := Lg) hU1 hp16 hok (by omega) hq
                            · skip
                              intro hz w1 hU1
                              by_cases h9 : r_.1.1 = 99
                              · rw [if_pos h9] at hq; exact absurd h9 hq.1
                              · rw [if_neg h9] at hq
                                obtain ⟨hok, hq⟩ := hq.as
                                rw [if_neg hz] at hq
                                refine ⟨0, rfl, hU1.ks.l3 (by omega), ?_⟩
                                refine x_fgt [(1, .ref (x.ad 0 0)), xo, xo, xo, xo, xo, xo, xo, xo] ⟨Or.inr rfl, Or.inl rfl, Or.inl rfl, Or.inl rfl, Or.inl rfl, Or.inl rfl, Or.inl rfl, Or.inl rfl, Or.inl rfl, trivial⟩ ?_
                                exact s231_pf hU1 hp16 hok (by omega) hq
                          · skip
                            exfalso; revert c164; decide
                      · skip
                        refine x_iload_n 136 dX1_perform_135 rfl rfl ?_
                        refine x_bipush (v := 22) 138 dX1_perform_136 rfl rfl ?_
                        refine x_icmp_eq 150 141 dX1_perform_138 (by decide) rfl (fun c138 => ?_) (fun c138 => ?_)
                        · skip
                          exfalso; revert c138; decide
                        · skip
                          refine x_iload_n 142 dX1_perform_141 rfl rfl ?_
                          refine x_bipush (v := 23) 144 dX1_perform_142 rfl rfl ?_
                          refine x_icmp_eq 150 147 dX1_perform_144 (by decide) rfl (fun c144 => ?_) (fun c144 => ?_)
                          · skip
                            exfalso; revert c144; decide
                          · skip
                            refine x_bipush (v := -5) 149 dX1_perform_147 rfl rfl ?_
                            refine x_ireturn dX1_perform_149 rfl ?_
                            rw [if_pos ⟨rfl, c132⟩] at hq
                            rw [hR1]
                            exact hq.ret3 hT
                    · skip
                      refine x_aload_n 115 dX1_perform_114 rfl rfl ?_
                      refine x_gets 118 dX1_perform_115 rfl fl_X1_371 (hT.ks.l0 (by omega)) (show R1 0 0 19 = some p by rw [hR1]; exact xu_eq) ?_
                      refine x_iconst (v := 0) 119 dX1_perform_118 rfl rfl ?_
                      refine x_puti 122 dX1_perform_119 rfl fl_X1_357 rfl rfl (hT.ks.l9 (by omega)) ?_
                      refine k_nmA (v := v) (kI_xu (c := 9) rfl) fun I2 hI2 => ?_
                      refine x_bipush (v := -9) 124 dX1_perform_122 rfl rfl ?_
                      refine x_ireturn dX1_perform_124 rfl ?_
                      rw [if_neg c111] at hq
                      rw [hI2, hR1]
                      exact hq.ret3 hT
                  · skip
                    exfalso; revert c89; decide
          · skip
            refine x_bipush (v := -14) 55 dX1_perform_53 rfl rfl ?_
            refine x_ireturn dX1_perform_55 rfl ?_
            rw [← hI1] at hdn
            exact hdn c50
