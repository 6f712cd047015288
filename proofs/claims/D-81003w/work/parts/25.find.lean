set_option maxRecDepth 100000
def xLn (T : xT) (c i m : Nat) : Prop := T.lv c i ∧ T.len c i = m
theorem dX3_find_0 : decode cX3_find 0 = .ok (.iconst 0, 1) := by decide +kernel
theorem dX3_find_1 : decode cX3_find 1 = .ok (.istore 7, 2) := by decide +kernel
theorem dX3_find_3 : decode cX3_find 3 = .ok (.iload 7, 2) := by decide +kernel
theorem dX3_find_5 : decode cX3_find 5 = .ok (.aload_n 0, 1) := by decide +kernel
theorem dX3_find_6 : decode cX3_find 6 = .ok (.getfield 37, 3) := by decide +kernel
theorem dX3_find_9 : decode cX3_find 9 = .ok (.if_icmp .ge 26, 3) := by decide +kernel
theorem dX3_find_12 : decode cX3_find 12 = .ok (.aload_n 0, 1) := by decide +kernel
theorem dX3_find_13 : decode cX3_find 13 = .ok (.iload 7, 2) := by decide +kernel
theorem dX3_find_15 : decode cX3_find 15 = .ok (.iload_n 1, 1) := by decide +kernel
theorem dX3_find_16 : decode cX3_find 16 = .ok (.iload_n 2, 1) := by decide +kernel
theorem dX3_find_17 : decode cX3_find 17 = .ok (.lload_n 3, 1) := by decide +kernel
theorem dX3_find_18 : decode cX3_find 18 = .ok (.lload 5, 2) := by decide +kernel
theorem dX3_find_20 : decode cX3_find 20 = .ok (.invokevirtual 41, 3) := by decide +kernel
theorem dX3_find_23 : decode cX3_find 23 = .ok (.ifCond .eq 6, 3) := by decide +kernel
theorem dX3_find_26 : decode cX3_find 26 = .ok (.iload 7, 2) := by decide +kernel
theorem dX3_find_28 : decode cX3_find 28 = .ok (.ireturn, 1) := by decide +kernel
theorem dX3_find_29 : decode cX3_find 29 = .ok (.iinc 7 1, 3) := by decide +kernel
theorem dX3_find_32 : decode cX3_find 32 = .ok (.goto (-29), 3) := by decide +kernel
theorem dX3_find_35 : decode cX3_find 35 = .ok (.aload_n 0, 1) := by decide +kernel
theorem dX3_find_36 : decode cX3_find 36 = .ok (.getfield 37, 3) := by decide +kernel
theorem dX3_find_39 : decode cX3_find 39 = .ok (.aload_n 0, 1) := by decide +kernel
theorem dX3_find_40 : decode cX3_find 40 = .ok (.getfield 9, 3) := by decide +kernel
theorem dX3_find_43 : decode cX3_find 43 = .ok (.arraylength, 1) := by decide +kernel
theorem dX3_find_44 : decode cX3_find 44 = .ok (.if_icmp .ne 75, 3) := by decide +kernel
theorem dX3_find_47 : decode cX3_find 47 = .ok (.aload_n 0, 1) := by decide +kernel
theorem dX3_find_48 : decode cX3_find 48 = .ok (.aload_n 0, 1) := by decide +kernel
theorem dX3_find_49 : decode cX3_find 49 = .ok (.aload_n 0, 1) := by decide +kernel
theorem dX3_find_50 : decode cX3_find 50 = .ok (.getfield 9, 3) := by decide +kernel
theorem dX3_find_53 : decode cX3_find 53 = .ok (.invokevirtual 45, 3) := by decide +kernel
theorem dX3_find_56 : decode cX3_find 56 = .ok (.putfield 9, 3) := by decide +kernel
theorem dX3_find_59 : decode cX3_find 59 = .ok (.aload_n 0, 1) := by decide +kernel
theorem dX3_find_60 : decode cX3_find 60 = .ok (.aload_n 0, 1) := by decide +kernel
theorem dX3_find_61 : decode cX3_find 61 = .ok (.aload_n 0, 1) := by decide +kernel
theorem dX3_find_62 : decode cX3_find 62 = .ok (.getfield 15, 3) := by decide +kernel
theorem dX3_find_65 : decode cX3_find 65 = .ok (.invokevirtual 45, 3) := by decide +kernel
theorem dX3_find_68 : decode cX3_find 68 = .ok (.putfield 15, 3) := by decide +kernel
theorem dX3_find_71 : decode cX3_find 71 = .ok (.aload_n 0, 1) := by decide +kernel
theorem dX3_find_72 : decode cX3_find 72 = .ok (.aload_n 0, 1) := by decide +kernel
theorem dX3_find_73 : decode cX3_find 73 = .ok (.aload_n 0, 1) := by decide +kernel
theorem dX3_find_74 : decode cX3_find 74 = .ok (.getfield 18, 3) := by decide +kernel
theorem dX3_find_77 : decode cX3_find 77 = .ok (.invokevirtual 49, 3) := by decide +kernel
theorem dX3_find_80 : decode cX3_find 80 = .ok (.putfield 18, 3) := by decide +kernel
theorem dX3_find_83 : decode cX3_find 83 = .ok (.aload_n 0, 1) := by decide +kernel
theorem dX3_find_84 : decode cX3_find 84 = .ok (.aload_n 0, 1) := by decide +kernel
theorem dX3_find_85 : decode cX3_find 85 = .ok (.aload_n 0, 1) := by decide +kernel
theorem dX3_find_86 : decode cX3_find 86 = .ok (.getfield 22, 3) := by decide +kernel
theorem dX3_find_89 : decode cX3_find 89 = .ok (.invokevirtual 49, 3) := by decide +kernel
theorem dX3_find_92 : decode cX3_find 92 = .ok (.putfield 22, 3) := by decide +kernel
theorem dX3_find_95 : decode cX3_find 95 = .ok (.aload_n 0, 1) := by decide +kernel
theorem dX3_find_96 : decode cX3_find 96 = .ok (.aload_n 0, 1) := by decide +kernel
theorem dX3_find_97 : decode cX3_find 97 = .ok (.aload_n 0, 1) := by decide +kernel
theorem dX3_find_98 : decode cX3_find 98 = .ok (.getfield 25, 3) := by decide +kernel
theorem dX3_find_101 : decode cX3_find 101 = .ok (.invokevirtual 45, 3) := by decide +kernel
theorem dX3_find_104 : decode cX3_find 104 = .ok (.putfield 25, 3) := by decide +kernel
theorem dX3_find_107 : decode cX3_find 107 = .ok (.aload_n 0, 1) := by decide +kernel
theorem dX3_find_108 : decode cX3_find 108 = .ok (.aload_n 0, 1) := by decide +kernel
theorem dX3_find_109 : decode cX3_find 109 = .ok (.aload_n 0, 1) := by decide +kernel
theorem dX3_find_110 : decode cX3_find 110 = .ok (.getfield 28, 3) := by decide +kernel
theorem dX3_find_113 : decode cX3_find 113 = .ok (.invokevirtual 45, 3) := by decide +kernel
theorem dX3_find_116 : decode cX3_find 116 = .ok (.putfield 28, 3) := by decide +kernel
theorem dX3_find_119 : decode cX3_find 119 = .ok (.aload_n 0, 1) := by decide +kernel
theorem dX3_find_120 : decode cX3_find 120 = .ok (.getfield 9, 3) := by decide +kernel
theorem dX3_find_123 : decode cX3_find 123 = .ok (.aload_n 0, 1) := by decide +kernel
theorem dX3_find_124 : decode cX3_find 124 = .ok (.getfield 37, 3) := by decide +kernel
theorem dX3_find_127 : decode cX3_find 127 = .ok (.iload_n 1, 1) := by decide +kernel
theorem dX3_find_128 : decode cX3_find 128 = .ok (.iastore, 1) := by decide +kernel
theorem dX3_find_129 : decode cX3_find 129 = .ok (.aload_n 0, 1) := by decide +kernel
theorem dX3_find_130 : decode cX3_find 130 = .ok (.getfield 15, 3) := by decide +kernel
theorem dX3_find_133 : decode cX3_find 133 = .ok (.aload_n 0, 1) := by decide +kernel
theorem dX3_find_134 : decode cX3_find 134 = .ok (.getfield 37, 3) := by decide +kernel
theorem dX3_find_137 : decode cX3_find 137 = .ok (.iload_n 2, 1) := by decide +kernel
theorem dX3_find_138 : decode cX3_find 138 = .ok (.iastore, 1) := by decide +kernel
theorem dX3_find_139 : decode cX3_find 139 = .ok (.aload_n 0, 1) := by decide +kernel
theorem dX3_find_140 : decode cX3_find 140 = .ok (.getfield 18, 3) := by decide +kernel
theorem dX3_find_143 : decode cX3_find 143 = .ok (.aload_n 0, 1) := by decide +kernel
theorem dX3_find_144 : decode cX3_find 144 = .ok (.getfield 37, 3) := by decide +kernel
theorem dX3_find_147 : decode cX3_find 147 = .ok (.lload_n 3, 1) := by decide +kernel
theorem dX3_find_148 : decode cX3_find 148 = .ok (.lastore, 1) := by decide +kernel
theorem dX3_find_149 : decode cX3_find 149 = .ok (.aload_n 0, 1) := by decide +kernel
theorem dX3_find_150 : decode cX3_find 150 = .ok (.getfield 22, 3) := by decide +kernel
theorem dX3_find_153 : decode cX3_find 153 = .ok (.aload_n 0, 1) := by decide +kernel
theorem dX3_find_154 : decode cX3_find 154 = .ok (.getfield 37, 3) := by decide +kernel
theorem dX3_find_157 : decode cX3_find 157 = .ok (.lload 5, 2) := by decide +kernel
theorem dX3_find_159 : decode cX3_find 159 = .ok (.lastore, 1) := by decide +kernel
theorem dX3_find_160 : decode cX3_find 160 = .ok (.aload_n 0, 1) := by decide +kernel
theorem dX3_find_161 : decode cX3_find 161 = .ok (.getfield 25, 3) := by decide +kernel
theorem dX3_find_164 : decode cX3_find 164 = .ok (.aload_n 0, 1) := by decide +kernel
theorem dX3_find_165 : decode cX3_find 165 = .ok (.getfield 37, 3) := by decide +kernel
theorem dX3_find_168 : decode cX3_find 168 = .ok (.iconst 0, 1) := by decide +kernel
theorem dX3_find_169 : decode cX3_find 169 = .ok (.iastore, 1) := by decide +kernel
theorem dX3_find_170 : decode cX3_find 170 = .ok (.aload_n 0, 1) := by decide +kernel
theorem dX3_find_171 : decode cX3_find 171 = .ok (.getfield 28, 3) := by decide +kernel
theorem dX3_find_174 : decode cX3_find 174 = .ok (.aload_n 0, 1) := by decide +kernel
theorem dX3_find_175 : decode cX3_find 175 = .ok (.getfield 37, 3) := by decide +kernel
theorem dX3_find_178 : decode cX3_find 178 = .ok (.iconst (-1), 1) := by decide +kernel
theorem dX3_find_179 : decode cX3_find 179 = .ok (.iastore, 1) := by decide +kernel
theorem dX3_find_180 : decode cX3_find 180 = .ok (.aload_n 0, 1) := by decide +kernel
theorem dX3_find_181 : decode cX3_find 181 = .ok (.dup, 1) := by decide +kernel
theorem dX3_find_182 : decode cX3_find 182 = .ok (.getfield 37, 3) := by decide +kernel
theorem dX3_find_185 : decode cX3_find 185 = .ok (.dup_x1, 1) := by decide +kernel
theorem dX3_find_186 : decode cX3_find 186 = .ok (.iconst 1, 1) := by decide +kernel
theorem dX3_find_187 : decode cX3_find 187 = .ok (.iadd, 1) := by decide +kernel
theorem dX3_find_188 : decode cX3_find 188 = .ok (.putfield 37, 3) := by decide +kernel
theorem dX3_find_191 : decode cX3_find 191 = .ok (.ireturn, 1) := by decide +kernel
set_option maxHeartbeats 4000000 in
set_option maxRecDepth 100000 in
theorem l_X3_put {G : xG} {n a b : Nat} {Q : Outcome → xS → Prop} {I : xI} {J : xJ} {R Z : xR} {T : xT} {N B : Nat} (hk : KS Z T N B) {nt cap jk jo jf js jr jw : Nat} (ht : TH0 R T cap jk jo jf js jr jw) (hnt : nt < cap) (hmn : I 2 0 0 = nI nt) {g oa s : Int32} {x y : Int64} (hn : 2 ≤ n) (hq : Q (.returned (some (.int (nI nt)))) (xu (xu (xu (xu (xu I 31 jk nt g) 31 jo nt oa) 31 jr nt 0) 31 jw nt (-1)) 2 0 0 (nI (nt + 1)), xu (xu J 32 jf nt x) 32 js nt y, R, Z, T)) : X G mX3_find n a b Q (I, J, R, Z, T) 119 [(1, .ref (T.ad 2 0)), (1, .int g), (1, .int oa), (2, .long x), xo, (2, .long y), xo, (1, .int s)] [] := by
  have hc2 := ht.xc2
  refine x_aload_n 120 dX3_find_119 rfl rfl ?_
  refine x_gets 123 dX3_find_120 rfl fl_X3_9 (hk.l2 (by omega)) ht.xk ?_
  refine x_aload_n 124 dX3_find_123 rfl rfl ?_
  refine x_geti 127 dX3_find_124 rfl fl_X3_37 (hk.l2 (by omega)) ?_
  refine x_vi (w := nI nt) hmn ?_
  refine x_iload_n 128 dX3_find_127 rfl rfl ?_
  refine x_iast 129 dX3_find_128 rfl ar_31 (by decide) (by decide) ht.xlk (xb ht.xnk (by omega) (by omega)) ?_
  refine x_nmI fun I1 hI1 => ?_
  refine x_aload_n 130 dX3_find_129 rfl rfl ?_
  refine x_gets 133 dX3_find_130 rfl fl_X3_15 (hk.l2 (by omega)) ht.xo ?_
  refine x_aload_n 134 dX3_find_133 rfl rfl ?_
  refine x_geti 137 dX3_find_134 rfl fl_X3_37 (hk.l2 (by omega)) ?_
  refine x_vi (w := nI nt) (by rw [hI1, xu_c (by decide)]; exact hmn) ?_
  refine x_iload_n 138 dX3_find_137 rfl rfl ?_
  refine x_iast 139 dX3_find_138 rfl ar_31 (by decide) (by decide) ht.xlo (xb ht.xno (by omega) (by omega)) ?_
  refine x_nmI fun I2 hI2 => ?_
  refine x_aload_n 140 dX3_find_139 rfl rfl ?_
  refine x_gets 143 dX3_find_140 rfl fl_X3_18 (hk.l2 (by omega)) ht.xf ?_
  refine x_aload_n 144 dX3_find_143 rfl rfl ?_
  refine x_geti 147 dX3_find_144 rfl fl_X3_37 (hk.l2 (by omega)) ?_
  refine x_vi (w := nI nt) (by rw [hI2, hI1, xu_c (by decide), xu_c (by decide)]; exact hmn) ?_
  refine x_lload_n 148 dX3_find_147 rfl rfl ?_
  refine x_last 149 dX3_find_148 rfl ar_32 (by decide) ht.xlf (xb ht.xnf (by omega) (by omega)) ?_
  refine x_nmJ fun J1 hJ1 => ?_
  refine x_aload_n 150 dX3_find_149 rfl rfl ?_
  refine x_gets 153 dX3_find_150 rfl fl_X3_22 (hk.l2 (by omega)) ht.xs ?_
  refine x_aload_n 154 dX3_find_153 rfl rfl ?_
  refine x_geti 157 dX3_find_154 rfl fl_X3_37 (hk.l2 (by omega)) ?_
  refine x_vi (w := nI nt) (by rw [hI2, hI1, xu_c (by decide), xu_c (by decide)]; exact hmn) ?_
  refine x_lload 159 dX3_find_157 rfl rfl ?_
  refine x_last 160 dX3_find_159 rfl ar_32 (by decide) ht.xls (xb ht.xns (by omega) (by omega)) ?_
  refine x_nmJ fun J2 hJ2 => ?_
  refine x_aload_n 161 dX3_find_160 rfl rfl ?_
  refine x_gets 164 dX3_find_161 rfl fl_X3_25 (hk.l2 (by omega)) ht.xr ?_
  refine x_aload_n 165 dX3_find_164 rfl rfl ?_
  refine x_geti 168 dX3_find_165 rfl fl_X3_37 (hk.l2 (by omega)) ?_
  refine x_vi (w := nI nt) (by rw [hI2, hI1, xu_c (by decide), xu_c (by decide)]; exact hmn) ?_
  refine x_iconst (v := 0) 169 dX3_find_168 rfl rfl ?_
  refine x_iast 170 dX3_find_169 rfl ar_31 (by decide) (by decide) ht.xlr (xb ht.xnr (by omega) (by omega)) ?_
  refine x_nmI fun I3 hI3 => ?_
  refine x_aload_n 171 dX3_find_170 rfl rfl ?_
  refine x_gets 174 dX3_find_171 rfl fl_X3_28 (hk.l2 (by omega)) ht.xw ?_
  refine x_aload_n 175 dX3_find_174 rfl rfl ?_
  refine x_geti 178 dX3_find_175 rfl fl_X3_37 (hk.l2 (by omega)) ?_
  refine x_vi (w := nI nt) (by rw [hI3, hI2, hI1, xu_c (by decide), xu_c (by decide), xu_c (by decide)]; exact hmn) ?_
  refine x_iconst (v := -1) 179 dX3_find_178 rfl rfl ?_
  refine x_iast 180 dX3_find_179 rfl ar_31 (by decide) (by decide) ht.xlw (xb ht.xnw (by omega) (by omega)) ?_
  refine x_nmI fun I4 hI4 => ?_
  refine x_aload_n 181 dX3_find_180 rfl rfl ?_
  refine x_dup 182 dX3_find_181 rfl rfl ?_
  refine x_geti 185 dX3_find_182 rfl fl_X3_37 (hk.l2 (by omega)) ?_
  refine x_vi (w := nI nt) (by rw [hI4, hI3, hI2, hI1, xu_c (by decide), xu_c (by decide), xu_c (by decide), xu_c (by decide)]; exact hmn) ?_
  refine x_dup_x1 186 dX3_find_185 rfl rfl rfl ?_
  refine x_iconst (v := 1) 187 dX3_find_186 rfl rfl ?_
  refine x_iaddn nt 1 188 dX3_find_187 rfl rfl rfl ?_
  refine x_puti 191 dX3_find_188 rfl fl_X3_37 rfl rfl (hk.l2 (by omega)) ?_
  refine x_nmI fun I5 hI5 => ?_
  refine x_ireturn dX3_find_191 rfl ?_
  rw [hI5, hI4, hI3, hI2, hI1, hJ2, hJ1]
  exact hq
set_option maxHeartbeats 4000000 in
set_option maxRecDepth 100000 in
theorem l_X3_grow {G : xG} {n a b : Nat} {Q : Outcome → xS → Prop} {I : xI} {J : xJ} {R Z : xR} {T : xT} {N B : Nat} (hk : KS Z T N B) {nt cap jk jo jf js jr jw : Nat} (ht : TH0 R T cap jk jo jf js jr jw) (hnt : nt ≤ cap) (hmn : I 2 0 0 = nI nt) (had : ∀ x, T.ad 31 x = x ∧ T.ad 32 x = x) (h5 : nt < 50000) (hc : T.nc + 6 ≤ 899237) (hs : T.ns + 12 * cap ≤ 6392848) (he : nt = cap) {g oa s : Int32} {x y : Int64} (hn : 2 ≤ n) (hqN : ∀ (I' : xI) (J' : xJ) (R' : xR) (T' : xT) (cap' jk' jo' jf' js' jr' jw' : Nat), TH0 R' T' cap' jk' jo' jf' js' jr' jw' → nt < cap' → (∀ k, k < nt → thAt I' J' jk' jo' jf' js' jr' jw' k = thAt I J jk jo jf js jr jw k) → I' 2 0 0 = nI nt → (∀ c, c ≠ 2 → c ≠ 31 → I' c = I c) → (∀ c, c ≠ 32 → J' c = J c) → (∀ c, c ≠ 2 → R' c = R c) → ((cap' = cap ∧ T' = T) ∨ (cap = nt ∧ cap' = 2 * cap ∧ thG T T' cap)) → Q (.returned (some (.int (nI nt)))) (xu (xu (xu (xu (xu I' 31 jk' nt g) 31 jo' nt oa) 31 jr' nt 0) 31 jw' nt (-1)) 2 0 0 (nI (nt + 1)), xu (xu J' 32 jf' nt x) 32 js' nt y, R', Z, T')) : X G mX3_find n a b Q (I, J, R, Z, T) 47 [(1, .ref (T.ad 2 0)), (1, .int g), (1, .int oa), (2, .long x), xo, (2, .long y), xo, (1, .int s)] [] := by
  have hc2 := ht.xc2
  have hc1 := ht.xc1
  refine x_aload_n 48 dX3_find_47 rfl rfl ?_
  refine x_aload_n 49 dX3_find_48 rfl rfl ?_
  refine x_aload_n 50 dX3_find_49 rfl rfl ?_
  refine x_gets 53 dX3_find_50 rfl fl_X3_9 (hk.l2 (by omega)) ht.xk ?_
  refine x_callV (as := [.ref (T.ad 31 jk)]) (rest := [.ref (T.ad 2 0)]) (i := 0) (n' := n - 1) 56 dX3_find_53 rfl mv_X3_45 rfl rfl (hk.l2 (by omega)) (xnh rfl) (by omega) (xst (Nat.le_of_ble_eq_true rfl)) (c_X3_twice (T := T) (cap := cap) ht.xlk ht.xnk (by omega) (fun x => (had x).1) (by omega) (by omega) (by omega) ?_)
  · skip
    intro hf1
    change X _ _ _ _ _ _ _ _ _ _
    generalize hT1 : xT.add T 31 (G.n0 + T.nc) (2 * cap) (2 * cap) = T1
    generalize hi1 : G.n0 + T.nc = i1 at *
    generalize hI1 : xur I 31 i1 (fun k => if k < cap then I 31 jk k else 0) = I1
    have l1_jk : xLn T1 31 jk cap := by rw [← hT1]; exact ⟨Or.inr (ht.xlk), (xT.add_len_n (hf1 31 jk (ht.xlk))).trans ht.xnk⟩
    have l1_jo : xLn T1 31 jo cap := by rw [← hT1]; exact ⟨Or.inr (ht.xlo), (xT.add_len_n (hf1 31 jo (ht.xlo))).trans ht.xno⟩
    have l1_jf : xLn T1 32 jf cap := by rw [← hT1]; exact ⟨Or.inr (ht.xlf), (xT.add_len_n (hf1 32 jf (ht.xlf))).trans ht.xnf⟩
    have l1_js : xLn T1 32 js cap := by rw [← hT1]; exact ⟨Or.inr (ht.xls), (xT.add_len_n (hf1 32 js (ht.xls))).trans ht.xns⟩
    have l1_jr : xLn T1 31 jr cap := by rw [← hT1]; exact ⟨Or.inr (ht.xlr), (xT.add_len_n (hf1 31 jr (ht.xlr))).trans ht.xnr⟩
    have l1_jw : xLn T1 31 jw cap := by rw [← hT1]; exact ⟨Or.inr (ht.xlw), (xT.add_len_n (hf1 31 jw (ht.xlw))).trans ht.xnw⟩
    have l1_i1 : xLn T1 31 i1 (2 * cap) := by rw [← hT1]; exact ⟨Or.inl ⟨rfl, rfl⟩, xT.add_len⟩
    have hk1 := hk.addT (c := 31) (i := i1) (m := 2 * cap) (sl := 2 * cap) (by simp [kcnt])
    rw [hT1] at hk1
    have hnc1 : T1.nc = T.nc + 1 := by rw [← hT1]; rfl
    have hns1 : T1.ns = T.ns + 2 * cap := by rw [← hT1]; rfl
    have had1 : T1.ad = T.ad := by rw [← hT1]; rfl
    rw [← had1]
    refine x_asR ?_
    refine x_putr 59 dX3_find_56 rfl fl_X3_9 (Or.inr ⟨_, rfl⟩) (hk1.l2 (by omega)) (fun _ h => by cases h; exact l1_i1.1) ?_
    refine x_nmR fun R1 hR1 => ?_
    refine x_aload_n 60 dX3_find_59 rfl rfl ?_
    refine x_aload_n 61 dX3_find_60 rfl rfl ?_
    refine x_aload_n 62 dX3_find_61 rfl rfl ?_
    refine x_gets 65 dX3_find_62 rfl fl_X3_15 (hk1.l2 (by omega)) (by rw [hR1, xu_k (by decide)]; exact ht.xo) ?_
    refine x_callV (as := [.ref (T1.ad 31 jo)]) (rest := [.ref (T1.ad 2 0)]) (i := 0) (n' := n - 1) 68 dX3_find_65 rfl mv_X3_45 rfl rfl (hk1.l2 (by omega)) (xnh rfl) (by omega) (xst (Nat.le_of_ble_eq_true rfl)) (c_X3_twice (T := T1) (cap := cap) l1_jo.1 l1_jo.2 (by omega) (fun x => by rw [had1]; exact (had x).1) (by omega) (by omega) (by omega) ?_)
    · skip
      intro hf2
      change X _ _ _ _ _ _ _ _ _ _
      generalize hT2 : xT.add T1 31 (G.n0 + T1.nc) (2 * cap) (2 * cap) = T2
      generalize hi2 : G.n0 + T1.nc = i2 at *
      generalize hI2 : xur I1 31 i2 (fun k => if k < cap then I1 31 jo k else 0) = I2
      have l2_jk : xLn T2 31 jk cap := by rw [← hT2]; exact ⟨Or.inr (l1_jk.1), (xT.add_len_n (hf2 31 jk (l1_jk.1))).trans l1_jk.2⟩
      have l2_jo : xLn T2 31 jo cap := by rw [← hT2]; exact ⟨Or.inr (l1_jo.1), (xT.add_len_n (hf2 31 jo (l1_jo.1))).trans l1_jo.2⟩
      have l2_jf : xLn T2 32 jf cap := by rw [← hT2]; exact ⟨Or.inr (l1_jf.1), (xT.add_len_n (hf2 32 jf (l1_jf.1))).trans l1_jf.2⟩
      have l2_js : xLn T2 32 js cap := by rw [← hT2]; exact ⟨Or.inr (l1_js.1), (xT.add_len_n (hf2 32 js (l1_js.1))).trans l1_js.2⟩
      have l2_jr : xLn T2 31 jr cap := by rw [← hT2]; exact ⟨Or.inr (l1_jr.1), (xT.add_len_n (hf2 31 jr (l1_jr.1))).trans l1_jr.2⟩
      have l2_jw : xLn T2 31 jw cap := by rw [← hT2]; exact ⟨Or.inr (l1_jw.1), (xT.add_len_n (hf2 31 jw (l1_jw.1))).trans l1_jw.2⟩
      have l2_i1 : xLn T2 31 i1 (2 * cap) := by rw [← hT2]; exact ⟨Or.inr (l1_i1.1), (xT.add_len_n (hf2 31 i1 (l1_i1.1))).trans l1_i1.2⟩
      have l2_i2 : xLn T2 31 i2 (2 * cap) := by rw [← hT2]; exact ⟨Or.inl ⟨rfl, rfl⟩, xT.add_len⟩
      have hk2 := hk1.addT (c := 31) (i := i2) (m := 2 * cap) (sl := 2 * cap) (by simp [kcnt])
      rw [hT2] at hk2
      have hnc2 : T2.nc = T1.nc + 1 := by rw [← hT2]; rfl
      have hns2 : T2.ns = T1.ns + 2 * cap := by rw [← hT2]; rfl
      have had2 : T2.ad = T1.ad := by rw [← hT2]; rfl
      rw [← had2]
      refine x_asR ?_
      refine x_putr 71 dX3_find_68 rfl fl_X3_15 (Or.inr ⟨_, rfl⟩) (hk2.l2 (by omega)) (fun _ h => by cases h; exact l2_i2.1) ?_
      refine x_nmR fun R2 hR2 => ?_
      refine x_aload_n 72 dX3_find_71 rfl rfl ?_
      refine x_aload_n 73 dX3_find_72 rfl rfl ?_
      refine x_aload_n 74 dX3_find_73 rfl rfl ?_
      refine x_gets 77 dX3_find_74 rfl fl_X3_18 (hk2.l2 (by omega)) (by rw [hR2, xu_k (by decide), hR1, xu_k (by decide)]; exact ht.xf) ?_
      refine x_callV (as := [.ref (T2.ad 32 jf)]) (rest := [.ref (T2.ad 2 0)]) (i := 0) (n' := n - 1) 80 dX3_find_77 rfl mv_X3_49 rfl rfl (hk2.l2 (by omega)) (xnh rfl) (by omega) (xst (Nat.le_of_ble_eq_true rfl)) (c_X3_twice_2 (T := T2) (cap := cap) l2_jf.1 l2_jf.2 (by omega) (fun x => by rw [had2, had1]; exact (had x).2) (by omega) (by omega) (by omega) ?_)
      · skip
        intro hf3
        change X _ _ _ _ _ _ _ _ _ _
        generalize hT3 : xT.add T2 32 (G.n0 + T2.nc) (2 * cap) (2 * cap) = T3
        generalize hi3 : G.n0 + T2.nc = i3 at *
        generalize hJ1 : xur J 32 i3 (fun k => if k < cap then J 32 jf k else 0) = J1
        have l3_jk : xLn T3 31 jk cap := by rw [← hT3]; exact ⟨Or.inr (l2_jk.1), (xT.add_len_n (hf3 31 jk (l2_jk.1))).trans l2_jk.2⟩
        have l3_jo : xLn T3 31 jo cap := by rw [← hT3]; exact ⟨Or.inr (l2_jo.1), (xT.add_len_n (hf3 31 jo (l2_jo.1))).trans l2_jo.2⟩
        have l3_jf : xLn T3 32 jf cap := by rw [← hT3]; exact ⟨Or.inr (l2_jf.1), (xT.add_len_n (hf3 32 jf (l2_jf.1))).trans l2_jf.2⟩
        have l3_js : xLn T3 32 js cap := by rw [← hT3]; exact ⟨Or.inr (l2_js.1), (xT.add_len_n (hf3 32 js (l2_js.1))).trans l2_js.2⟩
        have l3_jr : xLn T3 31 jr cap := by rw [← hT3]; exact ⟨Or.inr (l2_jr.1), (xT.add_len_n (hf3 31 jr (l2_jr.1))).trans l2_jr.2⟩
        have l3_jw : xLn T3 31 jw cap := by rw [← hT3]; exact ⟨Or.inr (l2_jw.1), (xT.add_len_n (hf3 31 jw (l2_jw.1))).trans l2_jw.2⟩
        have l3_i1 : xLn T3 31 i1 (2 * cap) := by rw [← hT3]; exact ⟨Or.inr (l2_i1.1), (xT.add_len_n (hf3 31 i1 (l2_i1.1))).trans l2_i1.2⟩
        have l3_i2 : xLn T3 31 i2 (2 * cap) := by rw [← hT3]; exact ⟨Or.inr (l2_i2.1), (xT.add_len_n (hf3 31 i2 (l2_i2.1))).trans l2_i2.2⟩
        have l3_i3 : xLn T3 32 i3 (2 * cap) := by rw [← hT3]; exact ⟨Or.inl ⟨rfl, rfl⟩, xT.add_len⟩
        have hk3 := hk2.addT (c := 32) (i := i3) (m := 2 * cap) (sl := 2 * cap) (by simp [kcnt])
        rw [hT3] at hk3
        have hnc3 : T3.nc = T2.nc + 1 := by rw [← hT3]; rfl
        have hns3 : T3.ns = T2.ns + 2 * cap := by rw [← hT3]; rfl
        have had3 : T3.ad = T2.ad := by rw [← hT3]; rfl
        rw [← had3]
        refine x_asR ?_
        refine x_putr 83 dX3_find_80 rfl fl_X3_18 (Or.inr ⟨_, rfl⟩) (hk3.l2 (by omega)) (fun _ h => by cases h; exact l3_i3.1) ?_
        refine x_nmR fun R3 hR3 => ?_
        refine x_aload_n 84 dX3_find_83 rfl rfl ?_
        refine x_aload_n 85 dX3_find_84 rfl rfl ?_
        refine x_aload_n 86 dX3_find_85 rfl rfl ?_
        refine x_gets 89 dX3_find_86 rfl fl_X3_22 (hk3.l2 (by omega)) (by rw [hR3, xu_k (by decide), hR2, xu_k (by decide), hR1, xu_k (by decide)]; exact ht.xs) ?_
        refine x_callV (as := [.ref (T3.ad 32 js)]) (rest := [.ref (T3.ad 2 0)]) (i := 0) (n' := n - 1) 92 dX3_find_89 rfl mv_X3_49 rfl rfl (hk3.l2 (by omega)) (xnh rfl) (by omega) (xst (Nat.le_of_ble_eq_true rfl)) (c_X3_twice_2 (T := T3) (cap := cap) l3_js.1 l3_js.2 (by omega) (fun x => by rw [had3, had2, had1]; exact (had x).2) (by omega) (by omega) (by omega) ?_)
        · skip
          intro hf4
          change X _ _ _ _ _ _ _ _ _ _
          generalize hT4 : xT.add T3 32 (G.n0 + T3.nc) (2 * cap) (2 * cap) = T4
          generalize hi4 : G.n0 + T3.nc = i4 at *
          generalize hJ2 : xur J1 32 i4 (fun k => if k < cap then J1 32 js k else 0) = J2
          have l4_jk : xLn T4 31 jk cap := by rw [← hT4]; exact ⟨Or.inr (l3_jk.1), (xT.add_len_n (hf4 31 jk (l3_jk.1))).trans l3_jk.2⟩
          have l4_jo : xLn T4 31 jo cap := by rw [← hT4]; exact ⟨Or.inr (l3_jo.1), (xT.add_len_n (hf4 31 jo (l3_jo.1))).trans l3_jo.2⟩
          have l4_jf : xLn T4 32 jf cap := by rw [← hT4]; exact ⟨Or.inr (l3_jf.1), (xT.add_len_n (hf4 32 jf (l3_jf.1))).trans l3_jf.2⟩
          have l4_js : xLn T4 32 js cap := by rw [← hT4]; exact ⟨Or.inr (l3_js.1), (xT.add_len_n (hf4 32 js (l3_js.1))).trans l3_js.2⟩
          have l4_jr : xLn T4 31 jr cap := by rw [← hT4]; exact ⟨Or.inr (l3_jr.1), (xT.add_len_n (hf4 31 jr (l3_jr.1))).trans l3_jr.2⟩
          have l4_jw : xLn T4 31 jw cap := by rw [← hT4]; exact ⟨Or.inr (l3_jw.1), (xT.add_len_n (hf4 31 jw (l3_jw.1))).trans l3_jw.2⟩
          have l4_i1 : xLn T4 31 i1 (2 * cap) := by rw [← hT4]; exact ⟨Or.inr (l3_i1.1), (xT.add_len_n (hf4 31 i1 (l3_i1.1))).trans l3_i1.2⟩
          have l4_i2 : xLn T4 31 i2 (2 * cap) := by rw [← hT4]; exact ⟨Or.inr (l3_i2.1), (xT.add_len_n (hf4 31 i2 (l3_i2.1))).trans l3_i2.2⟩
          have l4_i3 : xLn T4 32 i3 (2 * cap) := by rw [← hT4]; exact ⟨Or.inr (l3_i3.1), (xT.add_len_n (hf4 32 i3 (l3_i3.1))).trans l3_i3.2⟩
          have l4_i4 : xLn T4 32 i4 (2 * cap) := by rw [← hT4]; exact ⟨Or.inl ⟨rfl, rfl⟩, xT.add_len⟩
          have hk4 := hk3.addT (c := 32) (i := i4) (m := 2 * cap) (sl := 2 * cap) (by simp [kcnt])
          rw [hT4] at hk4
          have hnc4 : T4.nc = T3.nc + 1 := by rw [← hT4]; rfl
          have hns4 : T4.ns = T3.ns + 2 * cap := by rw [← hT4]; rfl
          have had4 : T4.ad = T3.ad := by rw [← hT4]; rfl
          rw [← had4]
          refine x_asR ?_
          refine x_putr 95 dX3_find_92 rfl fl_X3_22 (Or.inr ⟨_, rfl⟩) (hk4.l2 (by omega)) (fun _ h => by cases h; exact l4_i4.1) ?_
          refine x_nmR fun R4 hR4 => ?_
          refine x_aload_n 96 dX3_find_95 rfl rfl ?_
          refine x_aload_n 97 dX3_find_96 rfl rfl ?_
          refine x_aload_n 98 dX3_find_97 rfl rfl ?_
          refine x_gets 101 dX3_find_98 rfl fl_X3_25 (hk4.l2 (by omega)) (by rw [hR4, xu_k (by decide), hR3, xu_k (by decide), hR2, xu_k (by decide), hR1, xu_k (by decide)]; exact ht.xr) ?_
          refine x_callV (as := [.ref (T4.ad 31 jr)]) (rest := [.ref (T4.ad 2 0)]) (i := 0) (n' := n - 1) 104 dX3_find_101 rfl mv_X3_45 rfl rfl (hk4.l2 (by omega)) (xnh rfl) (by omega) (xst (Nat.le_of_ble_eq_true rfl)) (c_X3_twice (T := T4) (cap := cap) l4_jr.1 l4_jr.2 (by omega) (fun x => by rw [had4, had3, had2, had1]; exact (had x).1) (by omega) (by omega) (by omega) ?_)
          · skip
            intro hf5
            change X _ _ _ _ _ _ _ _ _ _
            generalize hT5 : xT.add T4 31 (G.n0 + T4.nc) (2 * cap) (2 * cap) = T5
            generalize hi5 : G.n0 + T4.nc = i5 at *
            generalize hI3 : xur I2 31 i5 (fun k => if k < cap then I2 31 jr k else 0) = I3
            have l5_jk : xLn T5 31 jk cap := by rw [← hT5]; exact ⟨Or.inr (l4_jk.1), (xT.add_len_n (hf5 31 jk (l4_jk.1))).trans l4_jk.2⟩
            have l5_jo : xLn T5 31 jo cap := by rw [← hT5]; exact ⟨Or.inr (l4_jo.1), (xT.add_len_n (hf5 31 jo (l4_jo.1))).trans l4_jo.2⟩
            have l5_jf : xLn T5 32 jf cap := by rw [← hT5]; exact ⟨Or.inr (l4_jf.1), (xT.add_len_n (hf5 32 jf (l4_jf.1))).trans l4_jf.2⟩
            have l5_js : xLn T5 32 js cap := by rw [← hT5]; exact ⟨Or.inr (l4_js.1), (xT.add_len_n (hf5 32 js (l4_js.1))).trans l4_js.2⟩
            have l5_jr : xLn T5 31 jr cap := by rw [← hT5]; exact ⟨Or.inr (l4_jr.1), (xT.add_len_n (hf5 31 jr (l4_jr.1))).trans l4_jr.2⟩
            have l5_jw : xLn T5 31 jw cap := by rw [← hT5]; exact ⟨Or.inr (l4_jw.1), (xT.add_len_n (hf5 31 jw (l4_jw.1))).trans l4_jw.2⟩
            have l5_i1 : xLn T5 31 i1 (2 * cap) := by rw [← hT5]; exact ⟨Or.inr (l4_i1.1), (xT.add_len_n (hf5 31 i1 (l4_i1.1))).trans l4_i1.2⟩
            have l5_i2 : xLn T5 31 i2 (2 * cap) := by rw [← hT5]; exact ⟨Or.inr (l4_i2.1), (xT.add_len_n (hf5 31 i2 (l4_i2.1))).trans l4_i2.2⟩
            have l5_i3 : xLn T5 32 i3 (2 * cap) := by rw [← hT5]; exact ⟨Or.inr (l4_i3.1), (xT.add_len_n (hf5 32 i3 (l4_i3.1))).trans l4_i3.2⟩
            have l5_i4 : xLn T5 32 i4 (2 * cap) := by rw [← hT5]; exact ⟨Or.inr (l4_i4.1), (xT.add_len_n (hf5 32 i4 (l4_i4.1))).trans l4_i4.2⟩
            have l5_i5 : xLn T5 31 i5 (2 * cap) := by rw [← hT5]; exact ⟨Or.inl ⟨rfl, rfl⟩, xT.add_len⟩
            have hk5 := hk4.addT (c := 31) (i := i5) (m := 2 * cap) (sl := 2 * cap) (by simp [kcnt])
            rw [hT5] at hk5
            have hnc5 : T5.nc = T4.nc + 1 := by rw [← hT5]; rfl
            have hns5 : T5.ns = T4.ns + 2 * cap := by rw [← hT5]; rfl
            have had5 : T5.ad = T4.ad := by rw [← hT5]; rfl
            rw [← had5]
            refine x_asR ?_
            refine x_putr 107 dX3_find_104 rfl fl_X3_25 (Or.inr ⟨_, rfl⟩) (hk5.l2 (by omega)) (fun _ h => by cases h; exact l5_i5.1) ?_
            refine x_nmR fun R5 hR5 => ?_
            refine x_aload_n 108 dX3_find_107 rfl rfl ?_
            refine x_aload_n 109 dX3_find_108 rfl rfl ?_
            refine x_aload_n 110 dX3_find_109 rfl rfl ?_
            refine x_gets 113 dX3_find_110 rfl fl_X3_28 (hk5.l2 (by omega)) (by rw [hR5, xu_k (by decide), hR4, xu_k (by decide), hR3, xu_k (by decide), hR2, xu_k (by decide), hR1, xu_k (by decide)]; exact ht.xw) ?_
            refine x_callV (as := [.ref (T5.ad 31 jw)]) (rest := [.ref (T5.ad 2 0)]) (i := 0) (n' := n - 1) 116 dX3_find_113 rfl mv_X3_45 rfl rfl (hk5.l2 (by omega)) (xnh rfl) (by omega) (xst (Nat.le_of_ble_eq_true rfl)) (c_X3_twice (T := T5) (cap := cap) l5_jw.1 l5_jw.2 (by omega) (fun x => by rw [had5, had4, had3, had2, had1]; exact (had x).1) (by omega) (by omega) (by omega) ?_)
            · skip
              intro hf6
              change X _ _ _ _ _ _ _ _ _ _
              generalize hT6 : xT.add T5 31 (G.n0 + T5.nc) (2 * cap) (2 * cap) = T6
              generalize hi6 : G.n0 + T5.nc = i6 at *
              generalize hI4 : xur I3 31 i6 (fun k => if k < cap then I3 31 jw k else 0) = I4
              have l6_jk : xLn T6 31 jk cap := by rw [← hT6]; exact ⟨Or.inr (l5_jk.1), (xT.add_len_n (hf6 31 jk (l5_jk.1))).trans l5_jk.2⟩
              have l6_jo : xLn T6 31 jo cap := by rw [← hT6]; exact ⟨Or.inr (l5_jo.1), (xT.add_len_n (hf6 31 jo (l5_jo.1))).trans l5_jo.2⟩
              have l6_jf : xLn T6 32 jf cap := by rw [← hT6]; exact ⟨Or.inr (l5_jf.1), (xT.add_len_n (hf6 32 jf (l5_jf.1))).trans l5_jf.2⟩
              have l6_js : xLn T6 32 js cap := by rw [← hT6]; exact ⟨Or.inr (l5_js.1), (xT.add_len_n (hf6 32 js (l5_js.1))).trans l5_js.2⟩
              have l6_jr : xLn T6 31 jr cap := by rw [← hT6]; exact ⟨Or.inr (l5_jr.1), (xT.add_len_n (hf6 31 jr (l5_jr.1))).trans l5_jr.2⟩
              have l6_jw : xLn T6 31 jw cap := by rw [← hT6]; exact ⟨Or.inr (l5_jw.1), (xT.add_len_n (hf6 31 jw (l5_jw.1))).trans l5_jw.2⟩
              have l6_i1 : xLn T6 31 i1 (2 * cap) := by rw [← hT6]; exact ⟨Or.inr (l5_i1.1), (xT.add_len_n (hf6 31 i1 (l5_i1.1))).trans l5_i1.2⟩
              have l6_i2 : xLn T6 31 i2 (2 * cap) := by rw [← hT6]; exact ⟨Or.inr (l5_i2.1), (xT.add_len_n (hf6 31 i2 (l5_i2.1))).trans l5_i2.2⟩
              have l6_i3 : xLn T6 32 i3 (2 * cap) := by rw [← hT6]; exact ⟨Or.inr (l5_i3.1), (xT.add_len_n (hf6 32 i3 (l5_i3.1))).trans l5_i3.2⟩
              have l6_i4 : xLn T6 32 i4 (2 * cap) := by rw [← hT6]; exact ⟨Or.inr (l5_i4.1), (xT.add_len_n (hf6 32 i4 (l5_i4.1))).trans l5_i4.2⟩
              have l6_i5 : xLn T6 31 i5 (2 * cap) := by rw [← hT6]; exact ⟨Or.inr (l5_i5.1), (xT.add_len_n (hf6 31 i5 (l5_i5.1))).trans l5_i5.2⟩
              have l6_i6 : xLn T6 31 i6 (2 * cap) := by rw [← hT6]; exact ⟨Or.inl ⟨rfl, rfl⟩, xT.add_len⟩
              have hk6 := hk5.addT (c := 31) (i := i6) (m := 2 * cap) (sl := 2 * cap) (by simp [kcnt])
              rw [hT6] at hk6
              have hnc6 : T6.nc = T5.nc + 1 := by rw [← hT6]; rfl
              have hns6 : T6.ns = T5.ns + 2 * cap := by rw [← hT6]; rfl
              have had6 : T6.ad = T5.ad := by rw [← hT6]; rfl
              rw [← had6]
              refine x_asR ?_
              refine x_putr 119 dX3_find_116 rfl fl_X3_28 (Or.inr ⟨_, rfl⟩) (hk6.l2 (by omega)) (fun _ h => by cases h; exact l6_i6.1) ?_
              refine x_nmR fun R6 hR6 => ?_
              have ht6 : TH0 R6 T6 (2 * cap) i1 i2 i3 i4 i5 i6 := ⟨(by rw [hR6, xu_k (by decide), hR5, xu_k (by decide), hR4, xu_k (by decide), hR3, xu_k (by decide), hR2, xu_k (by decide), hR1, xu_eq]), (by rw [hR6, xu_k (by decide), hR5, xu_k (by decide), hR4, xu_k (by decide), hR3, xu_k (by decide), hR2, xu_eq]), (by rw [hR6, xu_k (by decide), hR5, xu_k (by decide), hR4, xu_k (by decide), hR3, xu_eq]), (by rw [hR6, xu_k (by decide), hR5, xu_k (by decide), hR4, xu_eq]), (by rw [hR6, xu_k (by decide), hR5, xu_eq]), (by rw [hR6, xu_eq]), l6_i1.1, l6_i2.1, l6_i3.1, l6_i4.1, l6_i5.1, l6_i6.1, l6_i1.2, l6_i2.2, l6_i3.2, l6_i4.2, l6_i5.2, l6_i6.2, (fun e => hf2 31 i1 (l1_i1.1) ⟨rfl, e⟩), (fun e => hf5 31 i1 (l4_i1.1) ⟨rfl, e⟩), (fun e => hf6 31 i1 (l5_i1.1) ⟨rfl, e⟩), (fun e => hf5 31 i2 (l4_i2.1) ⟨rfl, e⟩), (fun e => hf6 31 i2 (l5_i2.1) ⟨rfl, e⟩), (fun e => hf6 31 i5 (l5_i5.1) ⟨rfl, e⟩), (fun e => hf4 32 i3 (l3_i3.1) ⟨rfl, e⟩), by omega, by omega⟩
              have hm6 : I4 2 0 0 = nI nt := by rw [← hI4, xur_c (by decide), ← hI3, xur_c (by decide), ← hI2, xur_c (by decide), ← hI1, xur_c (by decide)]; exact hmn
              have hIf : ∀ c, c ≠ 2 → c ≠ 31 → I4 c = I c := by
                intro c _ h31; funext i k; rw [← hI4, xur_c h31, ← hI3, xur_c h31, ← hI2, xur_c h31, ← hI1, xur_c h31]
              have hJf : ∀ c, c ≠ 32 → J2 c = J c := by
                intro c h32; funext i k; rw [← hJ2, xur_c h32, ← hJ1, xur_c h32]
              have hRf : ∀ c, c ≠ 2 → R6 c = R c := by
                intro c h2; funext i k; rw [hR6, xu_c h2, hR5, xu_c h2, hR4, xu_c h2, hR3, xu_c h2, hR2, xu_c h2, hR1, xu_c h2]
              have hG : thG T T6 cap := by
                refine ⟨by rw [had6, had5, had4, had3, had2, had1], by omega, by omega, fun c i hl => ?_, fun c h1 h2 => ?_⟩
                · have q1 : T1.lv c i ∧ T1.len c i = T.len c i := by rw [← hT1]; exact ⟨Or.inr hl, xT.add_len_n (hf1 c i hl)⟩
                  have q2 : T2.lv c i ∧ T2.len c i = T1.len c i := by rw [← hT2]; exact ⟨Or.inr q1.1, xT.add_len_n (hf2 c i q1.1)⟩
                  have q3 : T3.lv c i ∧ T3.len c i = T2.len c i := by rw [← hT3]; exact ⟨Or.inr q2.1, xT.add_len_n (hf3 c i q2.1)⟩
                  have q4 : T4.lv c i ∧ T4.len c i = T3.len c i := by rw [← hT4]; exact ⟨Or.inr q3.1, xT.add_len_n (hf4 c i q3.1)⟩
                  have q5 : T5.lv c i ∧ T5.len c i = T4.len c i := by rw [← hT5]; exact ⟨Or.inr q4.1, xT.add_len_n (hf5 c i q4.1)⟩
                  have q6 : T6.lv c i ∧ T6.len c i = T5.len c i := by rw [← hT6]; exact ⟨Or.inr q5.1, xT.add_len_n (hf6 c i q5.1)⟩
                  exact ⟨q6.1, by rw [q6.2, q5.2, q4.2, q3.2, q2.2, q1.2]⟩
                · have q1 : T1.lv c = T.lv c ∧ T1.len c = T.len c := by rw [← hT1]; exact xT.add_f h1
                  have q2 : T2.lv c = T1.lv c ∧ T2.len c = T1.len c := by rw [← hT2]; exact xT.add_f h1
                  have q3 : T3.lv c = T2.lv c ∧ T3.len c = T2.len c := by rw [← hT3]; exact xT.add_f h2
                  have q4 : T4.lv c = T3.lv c ∧ T4.len c = T3.len c := by rw [← hT4]; exact xT.add_f h2
                  have q5 : T5.lv c = T4.lv c ∧ T5.len c = T4.len c := by rw [← hT5]; exact xT.add_f h1
                  have q6 : T6.lv c = T5.lv c ∧ T6.len c = T5.len c := by rw [← hT6]; exact xT.add_f h1
                  exact ⟨by rw [q6.1, q5.1, q4.1, q3.1, q2.1, q1.1], by rw [q6.2, q5.2, q4.2, q3.2, q2.2, q1.2]⟩
              have hth : ∀ k, k < nt → thAt I4 J2 i1 i2 i3 i4 i5 i6 k = thAt I J jk jo jf js jr jw k := by
                intro k hk_
                have hkc : k < cap := by omega
                have a1 : I4 31 i1 k = I 31 jk k := by rw [← hI4, xur_i (fun e => hf6 31 i1 (l5_i1.1) ⟨rfl, e⟩), ← hI3, xur_i (fun e => hf5 31 i1 (l4_i1.1) ⟨rfl, e⟩), ← hI2, xur_i (fun e => hf2 31 i1 (l1_i1.1) ⟨rfl, e⟩), ← hI1, xur_eq, if_pos hkc]
                have a2 : I4 31 i2 k = I 31 jo k := by rw [← hI4, xur_i (fun e => hf6 31 i2 (l5_i2.1) ⟨rfl, e⟩), ← hI3, xur_i (fun e => hf5 31 i2 (l4_i2.1) ⟨rfl, e⟩), ← hI2, xur_eq, if_pos hkc, ← hI1, xur_i (fun e => hf1 31 jo (ht.xlo) ⟨rfl, e⟩)]
                have a3 : J2 32 i3 k = J 32 jf k := by rw [← hJ2, xur_i (fun e => hf4 32 i3 (l3_i3.1) ⟨rfl, e⟩), ← hJ1, xur_eq, if_pos hkc]
                have a4 : J2 32 i4 k = J 32 js k := by rw [← hJ2, xur_eq, if_pos hkc, ← hJ1, xur_i (fun e => hf3 32 js (l2_js.1) ⟨rfl, e⟩)]
                have a5 : I4 31 i5 k = I 31 jr k := by rw [← hI4, xur_i (fun e => hf6 31 i5 (l5_i5.1) ⟨rfl, e⟩), ← hI3, xur_eq, if_pos hkc, ← hI2, xur_i (fun e => hf2 31 jr (l1_jr.1) ⟨rfl, e⟩), ← hI1, xur_i (fun e => hf1 31 jr (ht.xlr) ⟨rfl, e⟩)]
                have a6 : I4 31 i6 k = I 31 jw k := by rw [← hI4, xur_eq, if_pos hkc, ← hI3, xur_i (fun e => hf5 31 jw (l4_jw.1) ⟨rfl, e⟩), ← hI2, xur_i (fun e => hf2 31 jw (l1_jw.1) ⟨rfl, e⟩), ← hI1, xur_i (fun e => hf1 31 jw (ht.xlw) ⟨rfl, e⟩)]
                unfold thAt; rw [a1, a2, a3, a4, a5, a6]
              exact l_X3_put hk6 ht6 (by omega) hm6 hn (hqN _ _ _ _ _ _ _ _ _ _ _ ht6 (by omega) hth hm6 hIf hJf hRf (Or.inr ⟨by omega, rfl, hG⟩))
set_option maxHeartbeats 4000000 in
set_option maxRecDepth 100000 in
theorem l_X3_find {G : xG} {n a b : Nat} {Q : Outcome → xS → Prop} {J : xJ} {Z : xR} {T : xT} {R : xR} {I : xI} {N B : Nat} (hk : KS Z T N B) {nt cap jk jo jf js jr jw : Nat} (ht : TH0 R T cap jk jo jf js jr jw) (hnt : nt ≤ cap) (hmn : I 2 0 0 = nI nt) (had : ∀ x, T.ad 31 x = x ∧ T.ad 32 x = x) (h5 : nt < 50000) (hc : T.nc + 6 ≤ 899237) (hs : T.ns + 12 * cap ≤ 6392848) {g oa : Int32} {x y : Int64} (hqF : ∀ k, k < nt → thIs (thAt I J jk jo jf js jr jw k) g oa x y → (∀ q, q < k → ¬ thIs (thAt I J jk jo jf js jr jw q) g oa x y) → Q (.returned (some (.int (nI k)))) (I, J, R, Z, T)) (hqN : (∀ q, q < nt → ¬ thIs (thAt I J jk jo jf js jr jw q) g oa x y) → ∀ (I' : xI) (J' : xJ) (R' : xR) (T' : xT) (cap' jk' jo' jf' js' jr' jw' : Nat), TH0 R' T' cap' jk' jo' jf' js' jr' jw' → nt < cap' → (∀ k, k < nt → thAt I' J' jk' jo' jf' js' jr' jw' k = thAt I J jk jo jf js jr jw k) → I' 2 0 0 = nI nt → (∀ c, c ≠ 2 → c ≠ 31 → I' c = I c) → (∀ c, c ≠ 32 → J' c = J c) → (∀ c, c ≠ 2 → R' c = R c) → ((cap' = cap ∧ T' = T) ∨ (cap = nt ∧ cap' = 2 * cap ∧ thG T T' cap)) → Q (.returned (some (.int (nI nt)))) (xu (xu (xu (xu (xu I' 31 jk' nt g) 31 jo' nt oa) 31 jr' nt 0) 31 jw' nt (-1)) 2 0 0 (nI (nt + 1)), xu (xu J' 32 jf' nt x) 32 js' nt y, R', Z, T')) (k : Nat) (hn : 2 ≤ n) :
    (k ≤ nt) → (∀ q, q < k → ¬ thIs (thAt I J jk jo jf js jr jw q) g oa x y) → X G mX3_find n a b Q (I, J, R, Z, T) 3 [(1, .ref (T.ad 2 0)), (1, .int g), (1, .int oa), (2, .long x), xo, (2, .long y), xo, (1, .int (nI k))] [] := by
  induction hm : nt - k using Nat.strongRecOn generalizing k with
  | _ m_ ih =>
    intro h8 hv
    have hc2 := ht.xc2
    refine x_iload 5 dX3_find_3 rfl rfl ?_
    refine x_aload_n 6 dX3_find_5 rfl rfl ?_
    refine x_geti 9 dX3_find_6 rfl fl_X3_37 (hk.l2 (by omega)) ?_
    refine x_vi (w := nI nt) hmn ?_
    refine x_icmp_ge 35 12 dX3_find_9 (by decide) rfl (fun c9 => ?_) (fun c9 => ?_)
    · skip
      have c9 : nt ≤ k := (nI_leI (a := nt) (b := k) (by omega) (by omega)).mp c9
      refine x_aload_n 36 dX3_find_35 rfl rfl ?_
      refine x_geti 39 dX3_find_36 rfl fl_X3_37 (hk.l2 (by omega)) ?_
      refine x_vi (w := nI nt) hmn ?_
      refine x_aload_n 40 dX3_find_39 rfl rfl ?_
      refine x_gets 43 dX3_find_40 rfl fl_X3_9 (hk.l2 (by omega)) ht.xk ?_
      refine x_alen 44 dX3_find_43 rfl ar_31 ht.xlk ?_
      refine x_vi (congrArg nI ht.xnk) ?_
      refine x_icmp_ne 119 47 dX3_find_44 (by decide) rfl (fun c44 => ?_) (fun c44 => ?_)
      · skip
        have c44 : ¬ (nt = cap) := fun h => c44 ((nI_eq (a := nt) (b := cap) (by omega) (by omega)).mpr h)
        exact l_X3_put hk ht (by omega) hmn hn (hqN (fun q h_ => hv q (by omega)) I J R T cap jk jo jf js jr jw ht (by omega) (fun _ _ => rfl) hmn (fun _ _ _ => rfl) (fun _ _ => rfl) (fun _ _ => rfl) (Or.inl ⟨rfl, rfl⟩))
      · skip
        have c44 : nt = cap := (nI_eq (a := nt) (b := cap) (by omega) (by omega)).mp c44
        exact l_X3_grow hk ht hnt hmn had h5 hc hs (by omega) hn (hqN (fun q h_ => hv q (by omega)))
    · skip
      have c9 : ¬ (nt ≤ k) := fun h => c9 ((nI_leI (a := nt) (b := k) (by omega) (by omega)).mpr h)
      refine x_aload_n 13 dX3_find_12 rfl rfl ?_
      refine x_iload 15 dX3_find_13 rfl rfl ?_
      refine x_iload_n 16 dX3_find_15 rfl rfl ?_
      refine x_iload_n 17 dX3_find_16 rfl rfl ?_
      refine x_lload_n 18 dX3_find_17 rfl rfl ?_
      refine x_lload 20 dX3_find_18 rfl rfl ?_
      refine x_callV (as := [.int (nI k), .int g, .int oa, .long x, .long y]) (rest := []) (i := 0) (n' := n - 1) 23 dX3_find_20 rfl mv_X3_41 rfl rfl (hk.l2 (by omega)) (xnh rfl) (by omega) (xst (Nat.le_of_ble_eq_true rfl)) (c_X3_is hk ht hnt (by omega) (by omega) ?_)
      change X _ _ _ _ _ _ _ _ _ _
      refine x_if_eq 29 26 dX3_find_23 (by decide) rfl (fun c23 => ?_) (fun c23 => ?_)
      · skip
        have c23 : ¬ (thIs (thAt I J jk jo jf js jr jw k) g oa x y) := b2i_0.mp c23
        refine x_iinc 32 [(1, .ref (T.ad 2 0)), (1, .int g), (1, .int oa), (2, .long x), xo, (2, .long y), xo, (1, .int (nI (k + 1)))] dX3_find_29 rfl (by decide) rfl (xi_1 k) rfl ?_
        refine x_goto 3 dX3_find_32 (by decide) ?_
        exact ih _ (by rw [← hm]; omega) (k + 1) rfl (by omega) (lt_succ_of (P := fun q => ¬ thIs (thAt I J jk jo jf js jr jw q) g oa x y) hv c23)
      · skip
        have c23 : thIs (thAt I J jk jo jf js jr jw k) g oa x y := b2i_n0.mp c23
        refine x_iload 28 dX3_find_26 rfl rfl ?_
        refine x_ireturn dX3_find_28 rfl ?_
        exact hqF k (by omega) c23 hv
set_option maxHeartbeats 4000000 in
set_option maxRecDepth 100000 in
theorem c0_X3_find {G : xG} {n : Nat} {Q : Outcome → xS → Prop} {I : xI} {J : xJ} {R Z : xR} {T : xT} {N B : Nat} (hk : KS Z T N B) {nt cap jk jo jf js jr jw : Nat} (ht : TH0 R T cap jk jo jf js jr jw) (hnt : nt ≤ cap) (hmn : I 2 0 0 = nI nt) (had : ∀ x, T.ad 31 x = x ∧ T.ad 32 x = x) (h5 : nt < 50000) (hc : T.nc + 6 ≤ 899237) (hs : T.ns + 12 * cap ≤ 6392848) {g oa : Int32} {x y : Int64} (hn : 2 ≤ n) (hqF : ∀ k, k < nt → thIs (thAt I J jk jo jf js jr jw k) g oa x y → (∀ q, q < k → ¬ thIs (thAt I J jk jo jf js jr jw q) g oa x y) → Q (.returned (some (.int (nI k)))) (I, J, R, Z, T)) (hqN : (∀ q, q < nt → ¬ thIs (thAt I J jk jo jf js jr jw q) g oa x y) → ∀ (I' : xI) (J' : xJ) (R' : xR) (T' : xT) (cap' jk' jo' jf' js' jr' jw' : Nat), TH0 R' T' cap' jk' jo' jf' js' jr' jw' → nt < cap' → (∀ k, k < nt → thAt I' J' jk' jo' jf' js' jr' jw' k = thAt I J jk jo jf js jr jw k) → I' 2 0 0 = nI nt → (∀ c, c ≠ 2 → c ≠ 31 → I' c = I c) → (∀ c, c ≠ 32 → J' c = J c) → (∀ c, c ≠ 2 → R' c = R c) → ((cap' = cap ∧ T' = T) ∨ (cap = nt ∧ cap' = 2 * cap ∧ thG T T' cap)) → Q (.returned (some (.int (nI nt)))) (xu (xu (xu (xu (xu I' 31 jk' nt g) 31 jo' nt oa) 31 jr' nt 0) 31 jw' nt (-1)) 2 0 0 (nI (nt + 1)), xu (xu J' 32 jf' nt x) 32 js' nt y, R', Z, T')) : xCall G mX3_find n [.ref (T.ad 2 0), .int g, .int oa, .long x, .long y] (I, J, R, Z, T) Q := by
  refine x_met (L0 := [(1, .ref (T.ad 2 0)), (1, .int g), (1, .int oa), (2, .long x), xo, (2, .long y), xo, xo]) (by decide +kernel) rfl ⟨Nat.le_of_ble_eq_true rfl, rfl⟩ ?_
  refine x_iconst (v := 0) 1 dX3_find_0 rfl rfl ?_
  refine x_istore 3 [(1, .ref (T.ad 2 0)), (1, .int g), (1, .int oa), (2, .long x), xo, (2, .long y), xo, (1, .int 0)] dX3_find_1 rfl (by decide) rfl ?_
  exact l_X3_find hk ht hnt hmn had h5 hc hs hqF hqN 0 hn (by omega) (fun q hq_ => absurd hq_ (by omega))
