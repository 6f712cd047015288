set_option maxRecDepth 100000
theorem xle_0 {P : Nat → Prop} (h : P 0) : ∀ k, k ≤ 0 → P k := fun k hk => (show k = 0 by omega) ▸ h
theorem xle_s {P : Nat → Prop} {n : Nat} (h : ∀ k, k ≤ n → P k) (hn : P (n + 1)) : ∀ k, k ≤ n + 1 → P k := fun k hk => by
  by_cases e : k = n + 1
  · rw [e]; exact hn
  · exact h k (by omega)
def iN (v : Int32) : Nat := v.toInt.toNat
theorem iN_nI {k : Nat} (h : k < 2147483648) : iN (nI k) = k := by unfold iN; rw [nI_toInt (by omega)]; omega
/-- an int that is no more than m, nor negative -/
def kLn (v : Int32) (m : Nat) : Prop := v = nI (iN v) ∧ iN v ≤ m
theorem kLn.of {k m : Nat} (h : k ≤ m) (hm : m < 2147483648) : kLn (nI k) m := ⟨by rw [iN_nI (by omega)], by rw [iN_nI (by omega)]; exact h⟩
/-- lengths and sizes as they may be -/
def wfB (N c k : Nat) : Option Nat :=
  cond (Nat.beq c 40 || Nat.beq c 41) (some N) (cond (Nat.beq c 48) (some 15)
  (cond (Nat.beq c 6) (cond (Nat.beq k 3 || Nat.beq k 7) (some 8192) (cond (Nat.beq k 4 || Nat.beq k 8) (some (N - 1)) (cond (Nat.beq k 17) (some 64) none)))
  (cond (Nat.beq c 7) (cond (Nat.beq k 6 || Nat.beq k 7) (some 8192) none)
  (cond (Nat.beq c 8) (cond (Nat.beq k 1 || Nat.beq k 3) (some 64) none)
  (cond (Nat.beq c 9) (cond (Nat.beq k 8) (some 20) (cond (Nat.beq k 16) (some 16) none))
  (cond (Nat.beq c 0) (cond (Nat.beq k 12) (some 256) (cond (Nat.beq k 14) (some 8192) none)) none))))))
def kWf (I : xI) (N : Nat) : Prop := ∀ c i k m, wfB N c k = some m → kLn (I c i k) m
theorem kWf.len {I : xI} {N : Nat} (h : kWf I N) (i : Nat) : kLn (I 6 i 3) 8192 := h 6 i 3 _ rfl
theorem kWf.hlen {I : xI} {N : Nat} (h : kWf I N) (i : Nat) : kLn (I 6 i 7) 8192 := h 6 i 7 _ rfl
theorem kWf.up {I : xI} {N : Nat} (h : kWf I N) (i : Nat) : kLn (I 6 i 4) (N - 1) := h 6 i 4 _ rfl
theorem kWf.psz {I : xI} {N : Nat} (h : kWf I N) (i : Nat) : kLn (I 8 i 1) 64 := h 8 i 1 _ rfl
theorem kWf.phs {I : xI} {N : Nat} (h : kWf I N) (i : Nat) : kLn (I 8 i 3) 64 := h 8 i 3 _ rfl
theorem kWf.now {I : xI} {N : Nat} (h : kWf I N) (i s : Nat) : kLn (I 41 i s) N := h 41 i s _ rfl
theorem kWf.kept {I : xI} {N : Nat} (h : kWf I N) (i s : Nat) : kLn (I 40 i s) N := h 40 i s _ rfl
theorem kWf.plc {I : xI} {N : Nat} (h : kWf I N) (o : Nat) : kLn (I 7 o 6) 8192 := h 7 o 6 _ rfl
theorem kWf.k {A t : xI} {N : Nat} (h : kWf A N) : kWf (kI A t) N := fun c i k m e => by
  by_cases h2 : c = 2
  · subst h2; cases e
  · by_cases h31 : c = 31
    · subst h31; cases e
    · rw [kI_of h2 h31]; exact h c i k m e
def kOf (g : Int32) (q N : Nat) : Prop := (g = nI 0 → q < N) ∧ (g = nI 1 → q < N) ∧ (g = nI 4 → q < N) ∧ (g = nI 5 → q < 384) ∧ (g = nI 6 → q < 8) ∧ (g = nI 8 → q < 16)
def kSaveD (I : xI) (q : Nat) : xI := xu (xu (xur I 37 q (va_cpy (I 36 q) (I 37 q) 0 0 (iN (I 6 q 3)))) 6 q 7 (I 6 q 3)) 6 q 12 (I 0 0 21)
def kSaveP (I : xI) (q : Nat) : xI := xu (xur I 45 q (va_cpy (I 44 q) (I 45 q) 0 0 (iN (I 8 q 1)))) 8 q 3 (I 8 q 1)
/-- what a thing had is kept beside -/
def kSave (I : xI) (g : Int32) (q : Nat) : xI :=
  if g = nI 0 then kSaveD I q else if g = nI 1 then xu (xu I 6 q 6 (I 6 q 2)) 6 q 11 (I 0 0 21) else if g = nI 4 then xu I 6 q 8 (I 6 q 4)
  else if g = nI 5 then xu I 7 q 7 (I 7 q 6) else if g = nI 6 then kSaveP I q else if g = nI 8 then xu I 9 q 7 (I 9 q 6) else I
def kRestD (I : xI) (q : Nat) : xI := xu (xu (xur I 36 q (va_cpy (I 37 q) (fun j => if iN (I 6 q 7) ≤ j ∧ j < iN (I 6 q 3) then 0 else I 36 q j) 0 0 (iN (I 6 q 7)))) 6 q 3 (I 6 q 7)) 6 q 12 (-1)
def kRestP (I : xI) (q : Nat) : xI := xu (xur I 44 q (va_cpy (I 45 q) (I 44 q) 0 0 (iN (I 8 q 3)))) 8 q 1 (I 8 q 3)
def kRest (I : xI) (g : Int32) (q : Nat) : xI :=
  if g = nI 0 then kRestD I q else if g = nI 1 then xu (xu I 6 q 2 (I 6 q 6)) 6 q 11 (-1) else if g = nI 4 then xu I 6 q 4 (I 6 q 8)
  else if g = nI 5 then xu I 7 q 6 (I 7 q 7) else if g = nI 6 then kRestP I q else if g = nI 8 then xu I 9 q 6 (I 9 q 7) else I
theorem dX1_save_0 : decode cX1_save 0 = .ok (.iload_n 1, 1) := by decide +kernel
theorem dX1_save_1 : decode cX1_save 1 = .ok (.tableswitch 201 0 8 #[51, 94, 201, 201, 128, 149, 168, 201, 180], 51) := by decide +kernel
theorem dX1_save_52 : decode cX1_save 52 = .ok (.aload_n 0, 1) := by decide +kernel
theorem dX1_save_53 : decode cX1_save 53 = .ok (.getfield 115, 3) := by decide +kernel
theorem dX1_save_56 : decode cX1_save 56 = .ok (.iload_n 2, 1) := by decide +kernel
theorem dX1_save_57 : decode cX1_save 57 = .ok (.aaload, 1) := by decide +kernel
theorem dX1_save_58 : decode cX1_save 58 = .ok (.astore_n 3, 1) := by decide +kernel
theorem dX1_save_59 : decode cX1_save 59 = .ok (.aload_n 3, 1) := by decide +kernel
theorem dX1_save_60 : decode cX1_save 60 = .ok (.getfield 279, 3) := by decide +kernel
theorem dX1_save_63 : decode cX1_save 63 = .ok (.iconst 0, 1) := by decide +kernel
theorem dX1_save_64 : decode cX1_save 64 = .ok (.aload_n 3, 1) := by decide +kernel
theorem dX1_save_65 : decode cX1_save 65 = .ok (.getfield 282, 3) := by decide +kernel
theorem dX1_save_68 : decode cX1_save 68 = .ok (.iconst 0, 1) := by decide +kernel
theorem dX1_save_69 : decode cX1_save 69 = .ok (.aload_n 3, 1) := by decide +kernel
theorem dX1_save_70 : decode cX1_save 70 = .ok (.getfield 285, 3) := by decide +kernel
theorem dX1_save_73 : decode cX1_save 73 = .ok (.invokestatic 148, 3) := by decide +kernel
theorem dX1_save_76 : decode cX1_save 76 = .ok (.aload_n 3, 1) := by decide +kernel
theorem dX1_save_77 : decode cX1_save 77 = .ok (.aload_n 3, 1) := by decide +kernel
theorem dX1_save_78 : decode cX1_save 78 = .ok (.getfield 285, 3) := by decide +kernel
theorem dX1_save_81 : decode cX1_save 81 = .ok (.putfield 288, 3) := by decide +kernel
theorem dX1_save_84 : decode cX1_save 84 = .ok (.aload_n 3, 1) := by decide +kernel
theorem dX1_save_85 : decode cX1_save 85 = .ok (.aload_n 0, 1) := by decide +kernel
theorem dX1_save_86 : decode cX1_save 86 = .ok (.getfield 291, 3) := by decide +kernel
theorem dX1_save_89 : decode cX1_save 89 = .ok (.putfield 294, 3) := by decide +kernel
theorem dX1_save_92 : decode cX1_save 92 = .ok (.goto 110, 3) := by decide +kernel
theorem dX1_save_95 : decode cX1_save 95 = .ok (.aload_n 0, 1) := by decide +kernel
theorem dX1_save_96 : decode cX1_save 96 = .ok (.getfield 115, 3) := by decide +kernel
theorem dX1_save_99 : decode cX1_save 99 = .ok (.iload_n 2, 1) := by decide +kernel
theorem dX1_save_100 : decode cX1_save 100 = .ok (.aaload, 1) := by decide +kernel
theorem dX1_save_101 : decode cX1_save 101 = .ok (.aload_n 0, 1) := by decide +kernel
theorem dX1_save_102 : decode cX1_save 102 = .ok (.getfield 115, 3) := by decide +kernel
theorem dX1_save_105 : decode cX1_save 105 = .ok (.iload_n 2, 1) := by decide +kernel
theorem dX1_save_106 : decode cX1_save 106 = .ok (.aaload, 1) := by decide +kernel
theorem dX1_save_107 : decode cX1_save 107 = .ok (.getfield 185, 3) := by decide +kernel
theorem dX1_save_110 : decode cX1_save 110 = .ok (.putfield 297, 3) := by decide +kernel
theorem dX1_save_113 : decode cX1_save 113 = .ok (.aload_n 0, 1) := by decide +kernel
theorem dX1_save_114 : decode cX1_save 114 = .ok (.getfield 115, 3) := by decide +kernel
theorem dX1_save_117 : decode cX1_save 117 = .ok (.iload_n 2, 1) := by decide +kernel
theorem dX1_save_118 : decode cX1_save 118 = .ok (.aaload, 1) := by decide +kernel
theorem dX1_save_119 : decode cX1_save 119 = .ok (.aload_n 0, 1) := by decide +kernel
theorem dX1_save_120 : decode cX1_save 120 = .ok (.getfield 291, 3) := by decide +kernel
theorem dX1_save_123 : decode cX1_save 123 = .ok (.putfield 261, 3) := by decide +kernel
theorem dX1_save_126 : decode cX1_save 126 = .ok (.goto 76, 3) := by decide +kernel
theorem dX1_save_129 : decode cX1_save 129 = .ok (.aload_n 0, 1) := by decide +kernel
theorem dX1_save_130 : decode cX1_save 130 = .ok (.getfield 115, 3) := by decide +kernel
theorem dX1_save_133 : decode cX1_save 133 = .ok (.iload_n 2, 1) := by decide +kernel
theorem dX1_save_134 : decode cX1_save 134 = .ok (.aaload, 1) := by decide +kernel
theorem dX1_save_135 : decode cX1_save 135 = .ok (.aload_n 0, 1) := by decide +kernel
theorem dX1_save_136 : decode cX1_save 136 = .ok (.getfield 115, 3) := by decide +kernel
theorem dX1_save_139 : decode cX1_save 139 = .ok (.iload_n 2, 1) := by decide +kernel
theorem dX1_save_140 : decode cX1_save 140 = .ok (.aaload, 1) := by decide +kernel
theorem dX1_save_141 : decode cX1_save 141 = .ok (.getfield 300, 3) := by decide +kernel
theorem dX1_save_144 : decode cX1_save 144 = .ok (.putfield 303, 3) := by decide +kernel
theorem dX1_save_147 : decode cX1_save 147 = .ok (.goto 55, 3) := by decide +kernel
theorem dX1_save_150 : decode cX1_save 150 = .ok (.aload_n 0, 1) := by decide +kernel
theorem dX1_save_151 : decode cX1_save 151 = .ok (.iload_n 2, 1) := by decide +kernel
theorem dX1_save_152 : decode cX1_save 152 = .ok (.invokevirtual 306, 3) := by decide +kernel
theorem dX1_save_155 : decode cX1_save 155 = .ok (.aload_n 0, 1) := by decide +kernel
theorem dX1_save_156 : decode cX1_save 156 = .ok (.iload_n 2, 1) := by decide +kernel
theorem dX1_save_157 : decode cX1_save 157 = .ok (.invokevirtual 306, 3) := by decide +kernel
theorem dX1_save_160 : decode cX1_save 160 = .ok (.getfield 310, 3) := by decide +kernel
theorem dX1_save_163 : decode cX1_save 163 = .ok (.putfield 313, 3) := by decide +kernel
theorem dX1_save_166 : decode cX1_save 166 = .ok (.goto 36, 3) := by decide +kernel
theorem dX1_save_169 : decode cX1_save 169 = .ok (.aload_n 0, 1) := by decide +kernel
theorem dX1_save_170 : decode cX1_save 170 = .ok (.getfield 33, 3) := by decide +kernel
theorem dX1_save_173 : decode cX1_save 173 = .ok (.iload_n 2, 1) := by decide +kernel
theorem dX1_save_174 : decode cX1_save 174 = .ok (.aaload, 1) := by decide +kernel
theorem dX1_save_175 : decode cX1_save 175 = .ok (.invokevirtual 316, 3) := by decide +kernel
theorem dX1_save_178 : decode cX1_save 178 = .ok (.goto 24, 3) := by decide +kernel
theorem dX1_save_181 : decode cX1_save 181 = .ok (.aload_n 0, 1) := by decide +kernel
theorem dX1_save_182 : decode cX1_save 182 = .ok (.getfield 39, 3) := by decide +kernel
theorem dX1_save_185 : decode cX1_save 185 = .ok (.iload_n 2, 1) := by decide +kernel
theorem dX1_save_186 : decode cX1_save 186 = .ok (.aaload, 1) := by decide +kernel
theorem dX1_save_187 : decode cX1_save 187 = .ok (.aload_n 0, 1) := by decide +kernel
theorem dX1_save_188 : decode cX1_save 188 = .ok (.getfield 39, 3) := by decide +kernel
theorem dX1_save_191 : decode cX1_save 191 = .ok (.iload_n 2, 1) := by decide +kernel
theorem dX1_save_192 : decode cX1_save 192 = .ok (.aaload, 1) := by decide +kernel
theorem dX1_save_193 : decode cX1_save 193 = .ok (.getfield 319, 3) := by decide +kernel
theorem dX1_save_196 : decode cX1_save 196 = .ok (.putfield 322, 3) := by decide +kernel
theorem dX1_save_199 : decode cX1_save 199 = .ok (.goto 3, 3) := by decide +kernel
theorem dX1_save_202 : decode cX1_save 202 = .ok (.return_, 1) := by decide +kernel
theorem kcv {Q : Outcome → xS → Prop} {oc : Outcome} {I I' : xI} {J : xJ} {R Z : xR} {T : xT} (h : I' = I) (hq : Q oc (I, J, R, Z, T)) : Q oc (I', J, R, Z, T) := by rw [h]; exact hq
set_option maxHeartbeats 4000000 in
set_option maxRecDepth 100000 in
theorem c_X1_save {G : xG} {n : Nat} {Q : Outcome → xS → Prop} {I : xI} {J : xJ} {R Z : xR} {T : xT} {N B : Nat} (hk : KS Z T N B) {g : Int32} {q : Nat} (hof : kOf g q N) (hw : kWf I N) (hn : 2 ≤ n) (hq : Q (.returned none) (kSave I g q, J, R, Z, T)) : xCall G mX1_save n [.ref (T.ad 0 0), .int g, .int (nI q)] (I, J, R, Z, T) Q := by
  refine x_met (L0 := [(1, .ref (T.ad 0 0)), (1, .int g), (1, .int (nI q)), xo]) (by decide +kernel) rfl ⟨Nat.le_of_ble_eq_true rfl, rfl⟩ ?_
  refine x_iload_n 1 dX1_save_0 rfl rfl ?_
  by_cases e1_0 : g = nI 0
  · skip
    refine x_tin 0 52 dX1_save_1 e1_0 (by decide) (by decide) rfl (by decide) ?_
    have hb := hof.1 e1_0
    have hnb := hk.nb
    have hl8 := (hw.len q).2
    refine x_aload_n 53 dX1_save_52 rfl rfl ?_
    refine x_getz 56 dX1_save_53 rfl fl_X1_115 (hk.l0 (by omega)) (hk.z0_5 (by omega)) ?_
    refine x_iload_n 57 dX1_save_56 rfl rfl ?_
    refine x_aldz 58 dX1_save_57 rfl ar_23 rfl (hk.l23 (by omega)) (xb (hk.n23 (by omega)) (by omega) (by omega)) (hk.z23 (by omega)) ?_
    refine x_astore_n 59 [(1, .ref (T.ad 0 0)), (1, .int g), (1, .int (nI q)), (1, .ref (T.ad 6 q))] dX1_save_58 rfl (by decide) rfl ?_
    refine x_aload_n 60 dX1_save_59 rfl rfl ?_
    refine x_getz 63 dX1_save_60 rfl fl_X1_279 (hk.l6 (by omega)) (hk.z6_5 (by omega)) ?_
    refine x_iconst (v := 0) 64 dX1_save_63 rfl rfl ?_
    refine x_aload_n 65 dX1_save_64 rfl rfl ?_
    refine x_getz 68 dX1_save_65 rfl fl_X1_282 (hk.l6 (by omega)) (hk.z6_9 (by omega)) ?_
    refine x_iconst (v := 0) 69 dX1_save_68 rfl rfl ?_
    refine x_aload_n 70 dX1_save_69 rfl rfl ?_
    refine x_geti 73 dX1_save_70 rfl fl_X1_285 (hk.l6 (by omega)) ?_
    refine x_vi (w := nI (iN (I 6 q 3))) (hw.len q).1 ?_
    refine x_copyi (sp := 0) (dp := 0) (m := (iN (I 6 q 3))) 76 dX1_save_73 rfl cp_X1_148 ar_36 ar_37 (Or.inr ⟨rfl, by decide, by decide⟩) ⟨by decide, fun h => by cases h⟩ (hk.l36 (by omega)) (hk.l37 (by omega)) (by decide) (by omega) (xst (Nat.le_of_ble_eq_true rfl)) ⟨by omega, by omega, by omega⟩ (by rw [(hk.n36 (by omega))]; omega) (by rw [(hk.n37 (by omega))]; omega) ?_
    refine x_nmI fun I1 hI1 => ?_
    refine x_aload_n 77 dX1_save_76 rfl rfl ?_
    refine x_aload_n 78 dX1_save_77 rfl rfl ?_
    refine x_geti 81 dX1_save_78 rfl fl_X1_285 (hk.l6 (by omega)) ?_
    refine x_puti 84 dX1_save_81 rfl fl_X1_288 rfl rfl (hk.l6 (by omega)) ?_
    refine x_nmI fun I2 hI2 => ?_
    refine x_aload_n 85 dX1_save_84 rfl rfl ?_
    refine x_aload_n 86 dX1_save_85 rfl rfl ?_
    refine x_geti 89 dX1_save_86 rfl fl_X1_291 (hk.l0 (by omega)) ?_
    refine x_puti 92 dX1_save_89 rfl fl_X1_294 rfl rfl (hk.l6 (by omega)) ?_
    refine x_nmI fun I3 hI3 => ?_
    refine x_goto 202 dX1_save_92 (by decide) ?_
    refine x_vreturn dX1_save_202 rfl ?_
    unfold kSave at hq
    rw [if_pos e1_0] at hq
    exact kcv (by rw [hI3, hI2, hI1]; unfold kSaveD; rw [xur_c (by decide), xu_c (by decide), xur_c (by decide)]) hq
  · skip
    by_cases e1_1 : g = nI 1
    · skip
      refine x_tin 1 95 dX1_save_1 e1_1 (by decide) (by decide) rfl (by decide) ?_
      have hb := hof.2.1 e1_1
      have hnb := hk.nb
      refine x_aload_n 96 dX1_save_95 rfl rfl ?_
      refine x_getz 99 dX1_save_96 rfl fl_X1_115 (hk.l0 (by omega)) (hk.z0_5 (by omega)) ?_
      refine x_iload_n 100 dX1_save_99 rfl rfl ?_
      refine x_aldz 101 dX1_save_100 rfl ar_23 rfl (hk.l23 (by omega)) (xb (hk.n23 (by omega)) (by omega) (by omega)) (hk.z23 (by omega)) ?_
      refine x_aload_n 102 dX1_save_101 rfl rfl ?_
      refine x_getz 105 dX1_save_102 rfl fl_X1_115 (hk.l0 (by omega)) (hk.z0_5 (by omega)) ?_
      refine x_iload_n 106 dX1_save_105 rfl rfl ?_
      refine x_aldz 107 dX1_save_106 rfl ar_23 rfl (hk.l23 (by omega)) (xb (hk.n23 (by omega)) (by omega) (by omega)) (hk.z23 (by omega)) ?_
      refine x_geti 110 dX1_save_107 rfl fl_X1_185 (hk.l6 (by omega)) ?_
      refine x_puti 113 dX1_save_110 rfl fl_X1_297 rfl rfl (hk.l6 (by omega)) ?_
      refine x_nmI fun I1 hI1 => ?_
      refine x_aload_n 114 dX1_save_113 rfl rfl ?_
      refine x_getz 117 dX1_save_114 rfl fl_X1_115 (hk.l0 (by omega)) (hk.z0_5 (by omega)) ?_
      refine x_iload_n 118 dX1_save_117 rfl rfl ?_
      refine x_aldz 119 dX1_save_118 rfl ar_23 rfl (hk.l23 (by omega)) (xb (hk.n23 (by omega)) (by omega) (by omega)) (hk.z23 (by omega)) ?_
      refine x_aload_n 120 dX1_save_119 rfl rfl ?_
      refine x_geti 123 dX1_save_120 rfl fl_X1_291 (hk.l0 (by omega)) ?_
      refine x_puti 126 dX1_save_123 rfl fl_X1_261 rfl rfl (hk.l6 (by omega)) ?_
      refine x_nmI fun I2 hI2 => ?_
      refine x_goto 202 dX1_save_126 (by decide) ?_
      refine x_vreturn dX1_save_202 rfl ?_
      unfold kSave at hq
      rw [if_neg e1_0, if_pos e1_1] at hq
      exact kcv (by rw [hI2, hI1, xu_c (c := 6) (by decide)]) hq
    · skip
      by_cases e1_2 : g = nI 2
      · skip
        refine x_tin 2 202 dX1_save_1 e1_2 (by decide) (by decide) rfl (by decide) ?_
        refine x_vreturn dX1_save_202 rfl ?_
        unfold kSave at hq
        rw [if_neg e1_0, if_neg e1_1, if_neg (by rw [e1_2]; decide), if_neg (by rw [e1_2]; decide), if_neg (by rw [e1_2]; decide), if_neg (by rw [e1_2]; decide)] at hq
        exact hq
      · skip
        by_cases e1_3 : g = nI 3
        · skip
          refine x_tin 3 202 dX1_save_1 e1_3 (by decide) (by decide) rfl (by decide) ?_
          refine x_vreturn dX1_save_202 rfl ?_
          unfold kSave at hq
          rw [if_neg e1_0, if_neg e1_1, if_neg (by rw [e1_3]; decide), if_neg (by rw [e1_3]; decide), if_neg (by rw [e1_3]; decide), if_neg (by rw [e1_3]; decide)] at hq
          exact hq
        · skip
          by_cases e1_4 : g = nI 4
          · skip
            refine x_tin 4 129 dX1_save_1 e1_4 (by decide) (by decide) rfl (by decide) ?_
            have hb := hof.2.2.1 e1_4
            have hnb := hk.nb
            refine x_aload_n 130 dX1_save_129 rfl rfl ?_
            refine x_getz 133 dX1_save_130 rfl fl_X1_115 (hk.l0 (by omega)) (hk.z0_5 (by omega)) ?_
            refine x_iload_n 134 dX1_save_133 rfl rfl ?_
            refine x_aldz 135 dX1_save_134 rfl ar_23 rfl (hk.l23 (by omega)) (xb (hk.n23 (by omega)) (by omega) (by omega)) (hk.z23 (by omega)) ?_
            refine x_aload_n 136 dX1_save_135 rfl rfl ?_
            refine x_getz 139 dX1_save_136 rfl fl_X1_115 (hk.l0 (by omega)) (hk.z0_5 (by omega)) ?_
            refine x_iload_n 140 dX1_save_139 rfl rfl ?_
            refine x_aldz 141 dX1_save_140 rfl ar_23 rfl (hk.l23 (by omega)) (xb (hk.n23 (by omega)) (by omega) (by omega)) (hk.z23 (by omega)) ?_
            refine x_geti 144 dX1_save_141 rfl fl_X1_300 (hk.l6 (by omega)) ?_
            refine x_puti 147 dX1_save_144 rfl fl_X1_303 rfl rfl (hk.l6 (by omega)) ?_
            refine x_nmI fun I1 hI1 => ?_
            refine x_goto 202 dX1_save_147 (by decide) ?_
            refine x_vreturn dX1_save_202 rfl ?_
            unfold kSave at hq
            rw [if_neg e1_0, if_neg e1_1, if_pos e1_4] at hq
            rw [hI1]; exact hq
          · skip
            by_cases e1_5 : g = nI 5
            · skip
              refine x_tin 5 150 dX1_save_1 e1_5 (by decide) (by decide) rfl (by decide) ?_
              have hb := hof.2.2.2.1 e1_5
              have hnb := hk.nb
              refine x_aload_n 151 dX1_save_150 rfl rfl ?_
              refine x_iload_n 152 dX1_save_151 rfl rfl ?_
              refine x_callV (as := [.int (nI q)]) (rest := []) (i := 0) (n' := n - 1) 155 dX1_save_152 rfl mv_X1_306 rfl rfl (hk.l0 (by omega)) (xnh rfl) (by omega) (xst (Nat.le_of_ble_eq_true rfl)) (c_X1_opening hk (by omega) (by omega) ?_)
              change X _ _ _ _ _ _ _ _ _ _
              refine x_aload_n 156 dX1_save_155 rfl rfl ?_
              refine x_iload_n 157 dX1_save_156 rfl rfl ?_
              refine x_callV (as := [.int (nI q)]) (rest := [.ref (T.ad 7 q)]) (i := 0) (n' := n - 1) 160 dX1_save_157 rfl mv_X1_306 rfl rfl (hk.l0 (by omega)) (xnh rfl) (by omega) (xst (Nat.le_of_ble_eq_true rfl)) (c_X1_opening hk (by omega) (by omega) ?_)
              change X _ _ _ _ _ _ _ _ _ _
              refine x_geti 163 dX1_save_160 rfl fl_X1_310 (hk.l7 (by omega)) ?_
              refine x_puti 166 dX1_save_163 rfl fl_X1_313 rfl rfl (hk.l7 (by omega)) ?_
              refine x_nmI fun I1 hI1 => ?_
              refine x_goto 202 dX1_save_166 (by decide) ?_
              refine x_vreturn dX1_save_202 rfl ?_
              unfold kSave at hq
              rw [if_neg e1_0, if_neg e1_1, if_neg e1_4, if_pos e1_5] at hq
              rw [hI1]; exact hq
            · skip
              by_cases e1_6 : g = nI 6
              · skip
                refine x_tin 6 169 dX1_save_1 e1_6 (by decide) (by decide) rfl (by decide) ?_
                have hb := hof.2.2.2.2.1 e1_6
                have hnb := hk.nb
                refine x_aload_n 170 dX1_save_169 rfl rfl ?_
                refine x_getz 173 dX1_save_170 rfl fl_X1_33 (hk.l0 (by omega)) (hk.z0_7 (by omega)) ?_
                refine x_iload_n 174 dX1_save_173 rfl rfl ?_
                refine x_aldz 175 dX1_save_174 rfl ar_25 rfl (hk.l25 (by omega)) (xb (hk.n25 (by omega)) (by omega) (by omega)) (hk.z25 (by omega)) ?_
                refine x_callV (as := []) (rest := []) (i := q) (n' := n - 1) 178 dX1_save_175 rfl mv_X1_316 rfl rfl (hk.l8 (by omega)) (xnh rfl) (by omega) (xst (Nat.le_of_ble_eq_true rfl)) (c_X9_save (s := iN (I 8 q 1)) hk (by omega) (hw.psz _).1 (hw.psz _).2 (by omega) ?_)
                change X _ _ _ _ _ _ _ _ _ _
                refine x_goto 202 dX1_save_178 (by decide) ?_
                refine x_vreturn dX1_save_202 rfl ?_
                unfold kSave at hq
                rw [if_neg e1_0, if_neg e1_1, if_neg e1_4, if_neg e1_5, if_pos e1_6] at hq
                exact kcv (by unfold kSaveP; rw [← (hw.psz q).1]) hq
              · skip
                by_cases e1_7 : g = nI 7
                · skip
                  refine x_tin 7 202 dX1_save_1 e1_7 (by decide) (by decide) rfl (by decide) ?_
                  refine x_vreturn dX1_save_202 rfl ?_
                  unfold kSave at hq
                  rw [if_neg e1_0, if_neg e1_1, if_neg e1_4, if_neg e1_5, if_neg e1_6, if_neg (by rw [e1_7]; decide)] at hq
                  exact hq
                · skip
                  by_cases e1_8 : g = nI 8
                  · skip
                    refine x_tin 8 181 dX1_save_1 e1_8 (by decide) (by decide) rfl (by decide) ?_
                    have hb := hof.2.2.2.2.2 e1_8
                    have hnb := hk.nb
                    refine x_aload_n 182 dX1_save_181 rfl rfl ?_
                    refine x_getz 185 dX1_save_182 rfl fl_X1_39 (hk.l0 (by omega)) (hk.z0_8 (by omega)) ?_
                    refine x_iload_n 186 dX1_save_185 rfl rfl ?_
                    refine x_aldz 187 dX1_save_186 rfl ar_26 rfl (hk.l26 (by omega)) (xb (hk.n26 (by omega)) (by omega) (by omega)) (hk.z26 (by omega)) ?_
                    refine x_aload_n 188 dX1_save_187 rfl rfl ?_
                    refine x_getz 191 dX1_save_188 rfl fl_X1_39 (hk.l0 (by omega)) (hk.z0_8 (by omega)) ?_
                    refine x_iload_n 192 dX1_save_191 rfl rfl ?_
                    refine x_aldz 193 dX1_save_192 rfl ar_26 rfl (hk.l26 (by omega)) (xb (hk.n26 (by omega)) (by omega) (by omega)) (hk.z26 (by omega)) ?_
                    refine x_geti 196 dX1_save_193 rfl fl_X1_319 (hk.l9 (by omega)) ?_
                    refine x_puti 199 dX1_save_196 rfl fl_X1_322 rfl rfl (hk.l9 (by omega)) ?_
                    refine x_nmI fun I1 hI1 => ?_
                    refine x_goto 202 dX1_save_199 (by decide) ?_
                    refine x_vreturn dX1_save_202 rfl ?_
                    unfold kSave at hq
                    rw [if_neg e1_0, if_neg e1_1, if_neg e1_4, if_neg e1_5, if_neg e1_6, if_pos e1_8] at hq
                    rw [hI1]; exact hq
                  · skip
                    refine x_tout 202 dX1_save_1 (by decide) (xle_s (xle_s (xle_s (xle_s (xle_s (xle_s (xle_s (xle_s (xle_0 e1_0) e1_1) e1_2) e1_3) e1_4) e1_5) e1_6) e1_7) e1_8) (by decide) ?_
                    refine x_vreturn dX1_save_202 rfl ?_
                    unfold kSave at hq
                    rw [if_neg e1_0, if_neg e1_1, if_neg e1_4, if_neg e1_5, if_neg e1_6, if_neg e1_8] at hq
                    exact hq
theorem dX1_restore_0 : decode cX1_restore 0 = .ok (.iload_n 1, 1) := by decide +kernel
theorem dX1_restore_1 : decode cX1_restore 1 = .ok (.tableswitch 224 0 8 #[51, 120, 224, 224, 151, 172, 191, 224, 203], 51) := by decide +kernel
theorem dX1_restore_52 : decode cX1_restore 52 = .ok (.aload_n 0, 1) := by decide +kernel
theorem dX1_restore_53 : decode cX1_restore 53 = .ok (.getfield 115, 3) := by decide +kernel
theorem dX1_restore_56 : decode cX1_restore 56 = .ok (.iload_n 2, 1) := by decide +kernel
theorem dX1_restore_57 : decode cX1_restore 57 = .ok (.aaload, 1) := by decide +kernel
theorem dX1_restore_58 : decode cX1_restore 58 = .ok (.astore_n 3, 1) := by decide +kernel
theorem dX1_restore_59 : decode cX1_restore 59 = .ok (.aload_n 3, 1) := by decide +kernel
theorem dX1_restore_60 : decode cX1_restore 60 = .ok (.getfield 288, 3) := by decide +kernel
theorem dX1_restore_63 : decode cX1_restore 63 = .ok (.istore 4, 2) := by decide +kernel
theorem dX1_restore_65 : decode cX1_restore 65 = .ok (.iload 4, 2) := by decide +kernel
theorem dX1_restore_67 : decode cX1_restore 67 = .ok (.aload_n 3, 1) := by decide +kernel
theorem dX1_restore_68 : decode cX1_restore 68 = .ok (.getfield 285, 3) := by decide +kernel
theorem dX1_restore_71 : decode cX1_restore 71 = .ok (.if_icmp .ge 17, 3) := by decide +kernel
theorem dX1_restore_74 : decode cX1_restore 74 = .ok (.aload_n 3, 1) := by decide +kernel
theorem dX1_restore_75 : decode cX1_restore 75 = .ok (.getfield 279, 3) := by decide +kernel
theorem dX1_restore_78 : decode cX1_restore 78 = .ok (.iload 4, 2) := by decide +kernel
theorem dX1_restore_80 : decode cX1_restore 80 = .ok (.iconst 0, 1) := by decide +kernel
theorem dX1_restore_81 : decode cX1_restore 81 = .ok (.bastore, 1) := by decide +kernel
theorem dX1_restore_82 : decode cX1_restore 82 = .ok (.iinc 4 1, 3) := by decide +kernel
theorem dX1_restore_85 : decode cX1_restore 85 = .ok (.goto (-20), 3) := by decide +kernel
theorem dX1_restore_88 : decode cX1_restore 88 = .ok (.aload_n 3, 1) := by decide +kernel
theorem dX1_restore_89 : decode cX1_restore 89 = .ok (.getfield 282, 3) := by decide +kernel
theorem dX1_restore_92 : decode cX1_restore 92 = .ok (.iconst 0, 1) := by decide +kernel
theorem dX1_restore_93 : decode cX1_restore 93 = .ok (.aload_n 3, 1) := by decide +kernel
theorem dX1_restore_94 : decode cX1_restore 94 = .ok (.getfield 279, 3) := by decide +kernel
theorem dX1_restore_97 : decode cX1_restore 97 = .ok (.iconst 0, 1) := by decide +kernel
theorem dX1_restore_98 : decode cX1_restore 98 = .ok (.aload_n 3, 1) := by decide +kernel
theorem dX1_restore_99 : decode cX1_restore 99 = .ok (.getfield 288, 3) := by decide +kernel
theorem dX1_restore_102 : decode cX1_restore 102 = .ok (.invokestatic 148, 3) := by decide +kernel
theorem dX1_restore_105 : decode cX1_restore 105 = .ok (.aload_n 3, 1) := by decide +kernel
theorem dX1_restore_106 : decode cX1_restore 106 = .ok (.aload_n 3, 1) := by decide +kernel
theorem dX1_restore_107 : decode cX1_restore 107 = .ok (.getfield 288, 3) := by decide +kernel
theorem dX1_restore_110 : decode cX1_restore 110 = .ok (.putfield 285, 3) := by decide +kernel
theorem dX1_restore_113 : decode cX1_restore 113 = .ok (.aload_n 3, 1) := by decide +kernel
theorem dX1_restore_114 : decode cX1_restore 114 = .ok (.iconst (-1), 1) := by decide +kernel
theorem dX1_restore_115 : decode cX1_restore 115 = .ok (.putfield 294, 3) := by decide +kernel
theorem dX1_restore_118 : decode cX1_restore 118 = .ok (.goto 107, 3) := by decide +kernel
theorem dX1_restore_121 : decode cX1_restore 121 = .ok (.aload_n 0, 1) := by decide +kernel
theorem dX1_restore_122 : decode cX1_restore 122 = .ok (.getfield 115, 3) := by decide +kernel
theorem dX1_restore_125 : decode cX1_restore 125 = .ok (.iload_n 2, 1) := by decide +kernel
theorem dX1_restore_126 : decode cX1_restore 126 = .ok (.aaload, 1) := by decide +kernel
theorem dX1_restore_127 : decode cX1_restore 127 = .ok (.aload_n 0, 1) := by decide +kernel
theorem dX1_restore_128 : decode cX1_restore 128 = .ok (.getfield 115, 3) := by decide +kernel
theorem dX1_restore_131 : decode cX1_restore 131 = .ok (.iload_n 2, 1) := by decide +kernel
theorem dX1_restore_132 : decode cX1_restore 132 = .ok (.aaload, 1) := by decide +kernel
theorem dX1_restore_133 : decode cX1_restore 133 = .ok (.getfield 297, 3) := by decide +kernel
theorem dX1_restore_136 : decode cX1_restore 136 = .ok (.putfield 185, 3) := by decide +kernel
theorem dX1_restore_139 : decode cX1_restore 139 = .ok (.aload_n 0, 1) := by decide +kernel
theorem dX1_restore_140 : decode cX1_restore 140 = .ok (.getfield 115, 3) := by decide +kernel
theorem dX1_restore_143 : decode cX1_restore 143 = .ok (.iload_n 2, 1) := by decide +kernel
theorem dX1_restore_144 : decode cX1_restore 144 = .ok (.aaload, 1) := by decide +kernel
theorem dX1_restore_145 : decode cX1_restore 145 = .ok (.iconst (-1), 1) := by decide +kernel
theorem dX1_restore_146 : decode cX1_restore 146 = .ok (.putfield 261, 3) := by decide +kernel
theorem dX1_restore_149 : decode cX1_restore 149 = .ok (.goto 76, 3) := by decide +kernel
theorem dX1_restore_152 : decode cX1_restore 152 = .ok (.aload_n 0, 1) := by decide +kernel
theorem dX1_restore_153 : decode cX1_restore 153 = .ok (.getfield 115, 3) := by decide +kernel
theorem dX1_restore_156 : decode cX1_restore 156 = .ok (.iload_n 2, 1) := by decide +kernel
theorem dX1_restore_157 : decode cX1_restore 157 = .ok (.aaload, 1) := by decide +kernel
theorem dX1_restore_158 : decode cX1_restore 158 = .ok (.aload_n 0, 1) := by decide +kernel
theorem dX1_restore_159 : decode cX1_restore 159 = .ok (.getfield 115, 3) := by decide +kernel
theorem dX1_restore_162 : decode cX1_restore 162 = .ok (.iload_n 2, 1) := by decide +kernel
theorem dX1_restore_163 : decode cX1_restore 163 = .ok (.aaload, 1) := by decide +kernel
theorem dX1_restore_164 : decode cX1_restore 164 = .ok (.getfield 303, 3) := by decide +kernel
theorem dX1_restore_167 : decode cX1_restore 167 = .ok (.putfield 300, 3) := by decide +kernel
theorem dX1_restore_170 : decode cX1_restore 170 = .ok (.goto 55, 3) := by decide +kernel
theorem dX1_restore_173 : decode cX1_restore 173 = .ok (.aload_n 0, 1) := by decide +kernel
theorem dX1_restore_174 : decode cX1_restore 174 = .ok (.iload_n 2, 1) := by decide +kernel
theorem dX1_restore_175 : decode cX1_restore 175 = .ok (.invokevirtual 306, 3) := by decide +kernel
theorem dX1_restore_178 : decode cX1_restore 178 = .ok (.aload_n 0, 1) := by decide +kernel
theorem dX1_restore_179 : decode cX1_restore 179 = .ok (.iload_n 2, 1) := by decide +kernel
theorem dX1_restore_180 : decode cX1_restore 180 = .ok (.invokevirtual 306, 3) := by decide +kernel
theorem dX1_restore_183 : decode cX1_restore 183 = .ok (.getfield 313, 3) := by decide +kernel
theorem dX1_restore_186 : decode cX1_restore 186 = .ok (.putfield 310, 3) := by decide +kernel
theorem dX1_restore_189 : decode cX1_restore 189 = .ok (.goto 36, 3) := by decide +kernel
theorem dX1_restore_192 : decode cX1_restore 192 = .ok (.aload_n 0, 1) := by decide +kernel
theorem dX1_restore_193 : decode cX1_restore 193 = .ok (.getfield 33, 3) := by decide +kernel
theorem dX1_restore_196 : decode cX1_restore 196 = .ok (.iload_n 2, 1) := by decide +kernel
theorem dX1_restore_197 : decode cX1_restore 197 = .ok (.aaload, 1) := by decide +kernel
theorem dX1_restore_198 : decode cX1_restore 198 = .ok (.invokevirtual 325, 3) := by decide +kernel
theorem dX1_restore_201 : decode cX1_restore 201 = .ok (.goto 24, 3) := by decide +kernel
theorem dX1_restore_204 : decode cX1_restore 204 = .ok (.aload_n 0, 1) := by decide +kernel
theorem dX1_restore_205 : decode cX1_restore 205 = .ok (.getfield 39, 3) := by decide +kernel
theorem dX1_restore_208 : decode cX1_restore 208 = .ok (.iload_n 2, 1) := by decide +kernel
theorem dX1_restore_209 : decode cX1_restore 209 = .ok (.aaload, 1) := by decide +kernel
theorem dX1_restore_210 : decode cX1_restore 210 = .ok (.aload_n 0, 1) := by decide +kernel
theorem dX1_restore_211 : decode cX1_restore 211 = .ok (.getfield 39, 3) := by decide +kernel
theorem dX1_restore_214 : decode cX1_restore 214 = .ok (.iload_n 2, 1) := by decide +kernel
theorem dX1_restore_215 : decode cX1_restore 215 = .ok (.aaload, 1) := by decide +kernel
theorem dX1_restore_216 : decode cX1_restore 216 = .ok (.getfield 322, 3) := by decide +kernel
theorem dX1_restore_219 : decode cX1_restore 219 = .ok (.putfield 319, 3) := by decide +kernel
theorem dX1_restore_222 : decode cX1_restore 222 = .ok (.goto 3, 3) := by decide +kernel
theorem dX1_restore_225 : decode cX1_restore 225 = .ok (.return_, 1) := by decide +kernel
set_option maxHeartbeats 4000000 in
set_option maxRecDepth 100000 in
theorem l_X1_restore {G : xG} {n a b : Nat} {Q : Outcome → xS → Prop} {J : xJ} {Z : xR} {T : xT} {R : xR} {N B : Nat} (hk : KS Z T N B) {g : Int32} {q s t : Nat} (hqN : q < N) (ht : t ≤ 8192 ∧ s ≤ 8192) {I0 : xI} (hs : I0 6 q 3 = nI t) (hx : X G mX1_restore n a b Q (xfil I0 36 q s (max s t) (fun _ => 0), J, R, Z, T) 88 [(1, .ref (T.ad 0 0)), (1, .int g), (1, .int (nI q)), (1, .ref (T.ad 6 q)), xo] []) (k : Nat) (I : xI) (hn : 1 ≤ n) :
    (s ≤ k ∧ k ≤ max s t) → (I = xfil I0 36 q s k (fun _ => 0)) → X G mX1_restore n a b Q (I, J, R, Z, T) 65 [(1, .ref (T.ad 0 0)), (1, .int g), (1, .int (nI q)), (1, .ref (T.ad 6 q)), (1, .int (nI k))] [] := by
  induction hm : t - k using Nat.strongRecOn generalizing k I with
  | _ m_ ih =>
    intro h8 hI
    have hnb := hk.nb
    refine x_iload 67 dX1_restore_65 rfl rfl ?_
    refine x_aload_n 68 dX1_restore_67 rfl rfl ?_
    refine x_geti 71 dX1_restore_68 rfl fl_X1_285 (hk.l6 (by omega)) ?_
    refine x_vi (w := nI t) (by rw [hI, xfil_c (by decide)]; exact hs) ?_
    refine x_icmp_ge 88 74 dX1_restore_71 (by decide) rfl (fun c71 => ?_) (fun c71 => ?_)
    · skip
      have c71 : t ≤ k := (nI_leI (a := t) (b := k) (by omega) (by omega)).mp c71
      refine x_fgt [(1, .ref (T.ad 0 0)), (1, .int g), (1, .int (nI q)), (1, .ref (T.ad 6 q)), xo] ⟨Or.inr rfl, Or.inr rfl, Or.inr rfl, Or.inr rfl, Or.inl rfl, trivial⟩ ?_
      have e : k = max s t := by omega
      rw [hI, e]; exact hx
    · skip
      have c71 : ¬ (t ≤ k) := fun h => c71 ((nI_leI (a := t) (b := k) (by omega) (by omega)).mpr h)
      refine x_aload_n 75 dX1_restore_74 rfl rfl ?_
      refine x_getz 78 dX1_restore_75 rfl fl_X1_279 (hk.l6 (by omega)) (hk.z6_5 (by omega)) ?_
      refine x_iload 80 dX1_restore_78 rfl rfl ?_
      refine x_iconst (v := 0) 81 dX1_restore_80 rfl rfl ?_
      refine x_bast 82 dX1_restore_81 rfl ar_36 (by decide) (by decide) (hk.l36 (by omega)) (xb (hk.n36 (by omega)) (by omega) (by omega)) ?_
      refine x_nmI fun I1 hI1 => ?_
      refine x_iinc 85 [(1, .ref (T.ad 0 0)), (1, .int g), (1, .int (nI q)), (1, .ref (T.ad 6 q)), (1, .int (nI (k + 1)))] dX1_restore_82 rfl (by decide) rfl (xi_1 k) rfl ?_
      refine x_goto 65 dX1_restore_85 (by decide) ?_
      exact ih _ (by rw [← hm]; omega) (k + 1) I1 rfl (by omega) (by rw [hI1, hI]; exact xfil_step (by omega) rfl)
theorem kRestD_eq {I : xI} {q : Nat} (h3 : kLn (I 6 q 3) 8192) (h7 : kLn (I 6 q 7) 8192) :
    xu (xu (xur (xfil I 36 q (iN (I 6 q 7)) (max (iN (I 6 q 7)) (iN (I 6 q 3))) (fun _ => 0)) 36 q (va_cpy (xfil I 36 q (iN (I 6 q 7)) (max (iN (I 6 q 7)) (iN (I 6 q 3))) (fun _ => 0) 37 q) (xfil I 36 q (iN (I 6 q 7)) (max (iN (I 6 q 7)) (iN (I 6 q 3))) (fun _ => 0) 36 q) 0 0 (iN (I 6 q 7)))) 6 q 3 (nI (iN (I 6 q 7)))) 6 q 12 (-1) = kRestD I q := by
  unfold kRestD
  have e1 : xfil I 36 q (iN (I 6 q 7)) (max (iN (I 6 q 7)) (iN (I 6 q 3))) (fun _ => 0) 37 q = I 37 q := by funext j; exact xfil_c (by decide)
  have e2 : xfil I 36 q (iN (I 6 q 7)) (max (iN (I 6 q 7)) (iN (I 6 q 3))) (fun _ => 0) 36 q = fun j => if iN (I 6 q 7) ≤ j ∧ j < iN (I 6 q 3) then 0 else I 36 q j := by
    funext j
    by_cases h : iN (I 6 q 7) ≤ j ∧ j < iN (I 6 q 3)
    · rw [if_pos h, xfil_in (by omega)]
    · rw [if_neg h, xfil_out (by omega)]
  rw [e1, e2, ← h7.1]
  congr 2
  funext c i j
  by_cases h : c = 36 ∧ i = q
  · simp only [xur, if_pos h]
  · simp only [xur, if_neg h, xfil_n h]
set_option maxHeartbeats 4000000 in
set_option maxRecDepth 100000 in
theorem c_X1_restore {G : xG} {n : Nat} {Q : Outcome → xS → Prop} {I : xI} {J : xJ} {R Z : xR} {T : xT} {N B : Nat} (hk : KS Z T N B) {g : Int32} {q : Nat} (hof : kOf g q N) (hw : kWf I N) (hn : 2 ≤ n) (hq : Q (.returned none) (kRest I g q, J, R, Z, T)) : xCall G mX1_restore n [.ref (T.ad 0 0), .int g, .int (nI q)] (I, J, R, Z, T) Q := by
  refine x_met (L0 := [(1, .ref (T.ad 0 0)), (1, .int g), (1, .int (nI q)), xo, xo]) (by decide +kernel) rfl ⟨Nat.le_of_ble_eq_true rfl, rfl⟩ ?_
  refine x_iload_n 1 dX1_restore_0 rfl rfl ?_
  by_cases e1_0 : g = nI 0
  · skip
    refine x_tin 0 52 dX1_restore_1 e1_0 (by decide) (by decide) rfl (by decide) ?_
    have hb := hof.1 e1_0
    have hnb := hk.nb
    have hl3 := hw.len q
    have hl7 := hw.hlen q
    have hl3b := hl3.2
    have hl7b := hl7.2
    refine x_aload_n 53 dX1_restore_52 rfl rfl ?_
    refine x_getz 56 dX1_restore_53 rfl fl_X1_115 (hk.l0 (by omega)) (hk.z0_5 (by omega)) ?_
    refine x_iload_n 57 dX1_restore_56 rfl rfl ?_
    refine x_aldz 58 dX1_restore_57 rfl ar_23 rfl (hk.l23 (by omega)) (xb (hk.n23 (by omega)) (by omega) (by omega)) (hk.z23 (by omega)) ?_
    refine x_astore_n 59 [(1, .ref (T.ad 0 0)), (1, .int g), (1, .int (nI q)), (1, .ref (T.ad 6 q)), xo] dX1_restore_58 rfl (by decide) rfl ?_
    refine x_aload_n 60 dX1_restore_59 rfl rfl ?_
    refine x_geti 63 dX1_restore_60 rfl fl_X1_288 (hk.l6 (by omega)) ?_
    refine x_vi (w := nI (iN (I 6 q 7))) hl7.1 ?_
    refine x_istore 65 [(1, .ref (T.ad 0 0)), (1, .int g), (1, .int (nI q)), (1, .ref (T.ad 6 q)), (1, .int (nI (iN (I 6 q 7))))] dX1_restore_63 rfl (by decide) rfl ?_
    refine l_X1_restore (s := iN (I 6 q 7)) (t := iN (I 6 q 3)) hk hb ⟨by omega, by omega⟩ hl3.1 ?_ (iN (I 6 q 7)) I (by omega) (by omega) (xfil_0 _ _ _ _ _).symm
    refine x_aload_n 89 dX1_restore_88 rfl rfl ?_
    refine x_getz 92 dX1_restore_89 rfl fl_X1_282 (hk.l6 (by omega)) (hk.z6_9 (by omega)) ?_
    refine x_iconst (v := 0) 93 dX1_restore_92 rfl rfl ?_
    refine x_aload_n 94 dX1_restore_93 rfl rfl ?_
    refine x_getz 97 dX1_restore_94 rfl fl_X1_279 (hk.l6 (by omega)) (hk.z6_5 (by omega)) ?_
    refine x_iconst (v := 0) 98 dX1_restore_97 rfl rfl ?_
    refine x_aload_n 99 dX1_restore_98 rfl rfl ?_
    refine x_geti 102 dX1_restore_99 rfl fl_X1_288 (hk.l6 (by omega)) ?_
    refine x_vi (w := nI (iN (I 6 q 7))) (by rw [xfil_c (by decide)]; exact hl7.1) ?_
    refine x_copyi (sp := 0) (dp := 0) (m := (iN (I 6 q 7))) 105 dX1_restore_102 rfl cp_X1_148 ar_37 ar_36 (Or.inr ⟨rfl, by decide, by decide⟩) ⟨by decide, fun h => by cases h⟩ (hk.l37 (by omega)) (hk.l36 (by omega)) (by decide) (by omega) (xst (Nat.le_of_ble_eq_true rfl)) ⟨by omega, by omega, by omega⟩ (by rw [(hk.n37 (by omega))]; omega) (by rw [(hk.n36 (by omega))]; omega) ?_
    refine x_nmI fun I1 hI1 => ?_
    refine x_aload_n 106 dX1_restore_105 rfl rfl ?_
    refine x_aload_n 107 dX1_restore_106 rfl rfl ?_
    refine x_geti 110 dX1_restore_107 rfl fl_X1_288 (hk.l6 (by omega)) ?_
    refine x_vi (w := nI (iN (I 6 q 7))) (by rw [hI1, xur_c (by decide), xfil_c (by decide)]; exact hl7.1) ?_
    refine x_puti 113 dX1_restore_110 rfl fl_X1_285 rfl rfl (hk.l6 (by omega)) ?_
    refine x_nmI fun I2 hI2 => ?_
    refine x_aload_n 114 dX1_restore_113 rfl rfl ?_
    refine x_iconst (v := -1) 115 dX1_restore_114 rfl rfl ?_
    refine x_puti 118 dX1_restore_115 rfl fl_X1_294 rfl rfl (hk.l6 (by omega)) ?_
    refine x_nmI fun I3 hI3 => ?_
    refine x_goto 225 dX1_restore_118 (by decide) ?_
    refine x_vreturn dX1_restore_225 rfl ?_
    unfold kRest at hq
    rw [if_pos e1_0] at hq
    exact kcv (by rw [hI3, hI2, hI1]; exact kRestD_eq hl3 hl7) hq
  · skip
    by_cases e1_1 : g = nI 1
    · skip
      refine x_tin 1 121 dX1_restore_1 e1_1 (by decide) (by decide) rfl (by decide) ?_
      have hb := hof.2.1 e1_1
      have hnb := hk.nb
      refine x_aload_n 122 dX1_restore_121 rfl rfl ?_
      refine x_getz 125 dX1_restore_122 rfl fl_X1_115 (hk.l0 (by omega)) (hk.z0_5 (by omega)) ?_
      refine x_iload_n 126 dX1_restore_125 rfl rfl ?_
      refine x_aldz 127 dX1_restore_126 rfl ar_23 rfl (hk.l23 (by omega)) (xb (hk.n23 (by omega)) (by omega) (by omega)) (hk.z23 (by omega)) ?_
      refine x_aload_n 128 dX1_restore_127 rfl rfl ?_
      refine x_getz 131 dX1_restore_128 rfl fl_X1_115 (hk.l0 (by omega)) (hk.z0_5 (by omega)) ?_
      refine x_iload_n 132 dX1_restore_131 rfl rfl ?_
      refine x_aldz 133 dX1_restore_132 rfl ar_23 rfl (hk.l23 (by omega)) (xb (hk.n23 (by omega)) (by omega) (by omega)) (hk.z23 (by omega)) ?_
      refine x_geti 136 dX1_restore_133 rfl fl_X1_297 (hk.l6 (by omega)) ?_
      refine x_puti 139 dX1_restore_136 rfl fl_X1_185 rfl rfl (hk.l6 (by omega)) ?_
      refine x_nmI fun I1 hI1 => ?_
      refine x_aload_n 140 dX1_restore_139 rfl rfl ?_
      refine x_getz 143 dX1_restore_140 rfl fl_X1_115 (hk.l0 (by omega)) (hk.z0_5 (by omega)) ?_
      refine x_iload_n 144 dX1_restore_143 rfl rfl ?_
      refine x_aldz 145 dX1_restore_144 rfl ar_23 rfl (hk.l23 (by omega)) (xb (hk.n23 (by omega)) (by omega) (by omega)) (hk.z23 (by omega)) ?_
      refine x_iconst (v := -1) 146 dX1_restore_145 rfl rfl ?_
      refine x_puti 149 dX1_restore_146 rfl fl_X1_261 rfl rfl (hk.l6 (by omega)) ?_
      refine x_nmI fun I2 hI2 => ?_
      refine x_goto 225 dX1_restore_149 (by decide) ?_
      refine x_vreturn dX1_restore_225 rfl ?_
      unfold kRest at hq
      rw [if_neg e1_0, if_pos e1_1] at hq
      exact kcv (by rw [hI2, hI1]) hq
    · skip
      by_cases e1_2 : g = nI 2
      · skip
        refine x_tin 2 225 dX1_restore_1 e1_2 (by decide) (by decide) rfl (by decide) ?_
        refine x_vreturn dX1_restore_225 rfl ?_
        unfold kRest at hq
        rw [if_neg e1_0, if_neg e1_1, if_neg (by rw [e1_2]; decide), if_neg (by rw [e1_2]; decide), if_neg (by rw [e1_2]; decide), if_neg (by rw [e1_2]; decide)] at hq
        exact hq
      · skip
        by_cases e1_3 : g = nI 3
        · skip
          refine x_tin 3 225 dX1_restore_1 e1_3 (by decide) (by decide) rfl (by decide) ?_
          refine x_vreturn dX1_restore_225 rfl ?_
          unfold kRest at hq
          rw [if_neg e1_0, if_neg e1_1, if_neg (by rw [e1_3]; decide), if_neg (by rw [e1_3]; decide), if_neg (by rw [e1_3]; decide), if_neg (by rw [e1_3]; decide)] at hq
          exact hq
        · skip
          by_cases e1_4 : g = nI 4
          · skip
            refine x_tin 4 152 dX1_restore_1 e1_4 (by decide) (by decide) rfl (by decide) ?_
            have hb := hof.2.2.1 e1_4
            have hnb := hk.nb
            refine x_aload_n 153 dX1_restore_152 rfl rfl ?_
            refine x_getz 156 dX1_restore_153 rfl fl_X1_115 (hk.l0 (by omega)) (hk.z0_5 (by omega)) ?_
            refine x_iload_n 157 dX1_restore_156 rfl rfl ?_
            refine x_aldz 158 dX1_restore_157 rfl ar_23 rfl (hk.l23 (by omega)) (xb (hk.n23 (by omega)) (by omega) (by omega)) (hk.z23 (by omega)) ?_
            refine x_aload_n 159 dX1_restore_158 rfl rfl ?_
            refine x_getz 162 dX1_restore_159 rfl fl_X1_115 (hk.l0 (by omega)) (hk.z0_5 (by omega)) ?_
            refine x_iload_n 163 dX1_restore_162 rfl rfl ?_
            refine x_aldz 164 dX1_restore_163 rfl ar_23 rfl (hk.l23 (by omega)) (xb (hk.n23 (by omega)) (by omega) (by omega)) (hk.z23 (by omega)) ?_
            refine x_geti 167 dX1_restore_164 rfl fl_X1_303 (hk.l6 (by omega)) ?_
            refine x_puti 170 dX1_restore_167 rfl fl_X1_300 rfl rfl (hk.l6 (by omega)) ?_
            refine x_nmI fun I1 hI1 => ?_
            refine x_goto 225 dX1_restore_170 (by decide) ?_
            refine x_vreturn dX1_restore_225 rfl ?_
            unfold kRest at hq
            rw [if_neg e1_0, if_neg e1_1, if_pos e1_4] at hq
            exact kcv (by rw [hI1]) hq
          · skip
            by_cases e1_5 : g = nI 5
            · skip
              refine x_tin 5 173 dX1_restore_1 e1_5 (by decide) (by decide) rfl (by decide) ?_
              have hb := hof.2.2.2.1 e1_5
              have hnb := hk.nb
              refine x_aload_n 174 dX1_restore_173 rfl rfl ?_
              refine x_iload_n 175 dX1_restore_174 rfl rfl ?_
              refine x_callV (as := [.int (nI q)]) (rest := []) (i := 0) (n' := n - 1) 178 dX1_restore_175 rfl mv_X1_306 rfl rfl (hk.l0 (by omega)) (xnh rfl) (by omega) (xst (Nat.le_of_ble_eq_true rfl)) (c_X1_opening hk (by omega) (by omega) ?_)
              change X _ _ _ _ _ _ _ _ _ _
              refine x_aload_n 179 dX1_restore_178 rfl rfl ?_
              refine x_iload_n 180 dX1_restore_179 rfl rfl ?_
              refine x_callV (as := [.int (nI q)]) (rest := [.ref (T.ad 7 q)]) (i := 0) (n' := n - 1) 183 dX1_restore_180 rfl mv_X1_306 rfl rfl (hk.l0 (by omega)) (xnh rfl) (by omega) (xst (Nat.le_of_ble_eq_true rfl)) (c_X1_opening hk (by omega) (by omega) ?_)
              change X _ _ _ _ _ _ _ _ _ _
              refine x_geti 186 dX1_restore_183 rfl fl_X1_313 (hk.l7 (by omega)) ?_
              refine x_puti 189 dX1_restore_186 rfl fl_X1_310 rfl rfl (hk.l7 (by omega)) ?_
              refine x_nmI fun I1 hI1 => ?_
              refine x_goto 225 dX1_restore_189 (by decide) ?_
              refine x_vreturn dX1_restore_225 rfl ?_
              unfold kRest at hq
              rw [if_neg e1_0, if_neg e1_1, if_neg e1_4, if_pos e1_5] at hq
              exact kcv (by rw [hI1]) hq
            · skip
              by_cases e1_6 : g = nI 6
              · skip
                refine x_tin 6 192 dX1_restore_1 e1_6 (by decide) (by decide) rfl (by decide) ?_
                have hb := hof.2.2.2.2.1 e1_6
                have hnb := hk.nb
                refine x_aload_n 193 dX1_restore_192 rfl rfl ?_
                refine x_getz 196 dX1_restore_193 rfl fl_X1_33 (hk.l0 (by omega)) (hk.z0_7 (by omega)) ?_
                refine x_iload_n 197 dX1_restore_196 rfl rfl ?_
                refine x_aldz 198 dX1_restore_197 rfl ar_25 rfl (hk.l25 (by omega)) (xb (hk.n25 (by omega)) (by omega) (by omega)) (hk.z25 (by omega)) ?_
                refine x_callV (as := []) (rest := []) (i := q) (n' := n - 1) 201 dX1_restore_198 rfl mv_X1_325 rfl rfl (hk.l8 (by omega)) (xnh rfl) (by omega) (xst (Nat.le_of_ble_eq_true rfl)) (c_X9_undo (s := iN (I 8 q 3)) hk (by omega) (hw.phs _).1 (hw.phs _).2 (by omega) ?_)
                change X _ _ _ _ _ _ _ _ _ _
                refine x_goto 225 dX1_restore_201 (by decide) ?_
                refine x_vreturn dX1_restore_225 rfl ?_
                unfold kRest at hq
                rw [if_neg e1_0, if_neg e1_1, if_neg e1_4, if_neg e1_5, if_pos e1_6] at hq
                exact kcv (by unfold kRestP; rw [← (hw.phs q).1]) hq
              · skip
                by_cases e1_7 : g = nI 7
                · skip
                  refine x_tin 7 225 dX1_restore_1 e1_7 (by decide) (by decide) rfl (by decide) ?_
                  refine x_vreturn dX1_restore_225 rfl ?_
                  unfold kRest at hq
                  rw [if_neg e1_0, if_neg e1_1, if_neg e1_4, if_neg e1_5, if_neg e1_6, if_neg (by rw [e1_7]; decide)] at hq
                  exact hq
                · skip
                  by_cases e1_8 : g = nI 8
                  · skip
                    refine x_tin 8 204 dX1_restore_1 e1_8 (by decide) (by decide) rfl (by decide) ?_
                    have hb := hof.2.2.2.2.2 e1_8
                    have hnb := hk.nb
                    refine x_aload_n 205 dX1_restore_204 rfl rfl ?_
                    refine x_getz 208 dX1_restore_205 rfl fl_X1_39 (hk.l0 (by omega)) (hk.z0_8 (by omega)) ?_
                    refine x_iload_n 209 dX1_restore_208 rfl rfl ?_
                    refine x_aldz 210 dX1_restore_209 rfl ar_26 rfl (hk.l26 (by omega)) (xb (hk.n26 (by omega)) (by omega) (by omega)) (hk.z26 (by omega)) ?_
                    refine x_aload_n 211 dX1_restore_210 rfl rfl ?_
                    refine x_getz 214 dX1_restore_211 rfl fl_X1_39 (hk.l0 (by omega)) (hk.z0_8 (by omega)) ?_
                    refine x_iload_n 215 dX1_restore_214 rfl rfl ?_
                    refine x_aldz 216 dX1_restore_215 rfl ar_26 rfl (hk.l26 (by omega)) (xb (hk.n26 (by omega)) (by omega) (by omega)) (hk.z26 (by omega)) ?_
                    refine x_geti 219 dX1_restore_216 rfl fl_X1_322 (hk.l9 (by omega)) ?_
                    refine x_puti 222 dX1_restore_219 rfl fl_X1_319 rfl rfl (hk.l9 (by omega)) ?_
                    refine x_nmI fun I1 hI1 => ?_
                    refine x_goto 225 dX1_restore_222 (by decide) ?_
                    refine x_vreturn dX1_restore_225 rfl ?_
                    unfold kRest at hq
                    rw [if_neg e1_0, if_neg e1_1, if_neg e1_4, if_neg e1_5, if_neg e1_6, if_pos e1_8] at hq
                    exact kcv (by rw [hI1]) hq
                  · skip
                    refine x_tout 225 dX1_restore_1 (by decide) (xle_s (xle_s (xle_s (xle_s (xle_s (xle_s (xle_s (xle_s (xle_0 e1_0) e1_1) e1_2) e1_3) e1_4) e1_5) e1_6) e1_7) e1_8) (by decide) ?_
                    refine x_vreturn dX1_restore_225 rfl ?_
                    unfold kRest at hq
                    rw [if_neg e1_0, if_neg e1_1, if_neg e1_4, if_neg e1_5, if_neg e1_6, if_neg e1_8] at hq
                    exact hq
