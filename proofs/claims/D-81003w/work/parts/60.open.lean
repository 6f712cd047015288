set_option maxRecDepth 100000
/-- the least free descriptor -/
noncomputable def kFdN (s : kK) (me : Nat) : Nat := iN (fstI (fun k => s.2.1 46 me k = none) 8)
theorem cntN_all {P : Nat → Prop} : ∀ n, (∀ k, k < n → P k) → cntN P n = n
  | 0, _ => rfl
  | n + 1, h => by rw [cntN_t (h n (by omega)), cntN_all n (fun k hk => h k (by omega))]
theorem kFdN_s {s : kK} {me m : Nat} (h1 : 1 ≤ m) (h : ¬ 8 - cntN (fun k => ¬ s.2.1 46 me k = none) 8 < m) : fstI (fun k => s.2.1 46 me k = none) 8 = nI (kFdN s me) ∧ kFdN s me < 8 := by
  unfold kFdN
  rcases fstI_cases (fun k => s.2.1 46 me k = none) 8 with ⟨h1, h2⟩ | ⟨q, h1, _, h3, _⟩
  · exfalso
    have := cntN_all (P := fun k => ¬ s.2.1 46 me k = none) 8 (fun k hk => fst0_no 8 0 h2 k (by omega) (by omega))
    omega
  · rw [h3, iN_nI (by omega)]; exact ⟨rfl, h1⟩
def kHex (A : xI) (C : xR) : Prop := ∃ o, o < 384 ∧ ¬ kThere A C o
noncomputable def kOpI (A : xI) (o : Nat) (hw : Int32) : xI := xu (xu (xu (kNewI A o) 7 o 3 (b2i (¬ hw &&& 1 ≤ 0))) 7 o 4 (b2i (¬ hw &&& 2 ≤ 0))) 7 o 5 (b2i (¬ hw &&& 32 ≤ 0))
noncomputable def kOpE (s : kK) (me d f : Nat) (hw : Int32) : kQ := kAs (kHex s.1 s.2.1) s (kRt (kOpI s.1 (kFreeO s.1 s.2.1) hw, xu (kNewR s.2.1 me d (kFreeO s.1 s.2.1)) 7 (kFreeO s.1 s.2.1) 0 (some f), s.2.2) (nI d))
noncomputable def kDoOpen (N : Nat) (s : kK) (me : Nat) (tp : Nat → Int32) (fr lg : Nat → Nat) (st : Nat) (hw : Int32) : kQ :=
  if 8 - cntN (fun k => ¬ s.2.1 46 me k = none) 8 < 1 then kRf s (-11) else cif (pLast tp st fr lg)
    (kB (kLst N s me 0 tp fr lg st) fun s' a => match iEntry s'.1 a tp (fr (st - 1)) (lg (st - 1)) with
      | none => if hw &&& 4 = 0 then kRf s' (-2) else kB (kMake N s' me tp fr lg (st - 1) a 1) fun s' f => kOpE s' me (kFdN s me) f hw
      | some f => if hw &&& 8 ≤ 0 then cif (iDir s'.1 f) (kRf s' (-4)) (if hw &&& 16 ≤ 0 then kOpE s' me (kFdN s me) f hw else kU (kAccess N s' me 0 (nI f) 0 0 1) fun s' => kOpE (kSetLen s'.1 f 0, s'.2.1, s'.2.2) me (kFdN s me) f hw) else kRf s' (-3))
    (kB (kFnd N s me 0 tp fr lg st) fun s' _ => kRf s' (-4))
theorem dX1_doOpen_0 : decode cX1_doOpen 0 = .ok (.aload_n 0, 1) := by decide +kernel
theorem dX1_doOpen_1 : decode cX1_doOpen 1 = .ok (.iconst 1, 1) := by decide +kernel
theorem dX1_doOpen_2 : decode cX1_doOpen 2 = .ok (.invokevirtual 546, 3) := by decide +kernel
theorem dX1_doOpen_5 : decode cX1_doOpen 5 = .ok (.istore_n 2, 1) := by decide +kernel
theorem dX1_doOpen_6 : decode cX1_doOpen 6 = .ok (.aload_n 0, 1) := by decide +kernel
theorem dX1_doOpen_7 : decode cX1_doOpen 7 = .ok (.getfield 76, 3) := by decide +kernel
theorem dX1_doOpen_10 : decode cX1_doOpen 10 = .ok (.invokevirtual 520, 3) := by decide +kernel
theorem dX1_doOpen_13 : decode cX1_doOpen 13 = .ok (.ifCond .ne 21, 3) := by decide +kernel
theorem dX1_doOpen_16 : decode cX1_doOpen 16 = .ok (.aload_n 0, 1) := by decide +kernel
theorem dX1_doOpen_17 : decode cX1_doOpen 17 = .ok (.getfield 76, 3) := by decide +kernel
theorem dX1_doOpen_20 : decode cX1_doOpen 20 = .ok (.invokevirtual 573, 3) := by decide +kernel
theorem dX1_doOpen_23 : decode cX1_doOpen 23 = .ok (.pop, 1) := by decide +kernel
theorem dX1_doOpen_24 : decode cX1_doOpen 24 = .ok (.aload_n 0, 1) := by decide +kernel
theorem dX1_doOpen_25 : decode cX1_doOpen 25 = .ok (.getfield 53, 3) := by decide +kernel
theorem dX1_doOpen_28 : decode cX1_doOpen 28 = .ok (.bipush (-4), 2) := by decide +kernel
theorem dX1_doOpen_30 : decode cX1_doOpen 30 = .ok (.invokevirtual 364, 3) := by decide +kernel
theorem dX1_doOpen_33 : decode cX1_doOpen 33 = .ok (.athrow, 1) := by decide +kernel
theorem dX1_doOpen_34 : decode cX1_doOpen 34 = .ok (.aload_n 0, 1) := by decide +kernel
theorem dX1_doOpen_35 : decode cX1_doOpen 35 = .ok (.getfield 76, 3) := by decide +kernel
theorem dX1_doOpen_38 : decode cX1_doOpen 38 = .ok (.invokevirtual 616, 3) := by decide +kernel
theorem dX1_doOpen_41 : decode cX1_doOpen 41 = .ok (.astore_n 3, 1) := by decide +kernel
theorem dX1_doOpen_42 : decode cX1_doOpen 42 = .ok (.aload_n 0, 1) := by decide +kernel
theorem dX1_doOpen_43 : decode cX1_doOpen 43 = .ok (.getfield 76, 3) := by decide +kernel
theorem dX1_doOpen_46 : decode cX1_doOpen 46 = .ok (.aload_n 3, 1) := by decide +kernel
theorem dX1_doOpen_47 : decode cX1_doOpen 47 = .ok (.invokevirtual 619, 3) := by decide +kernel
theorem dX1_doOpen_50 : decode cX1_doOpen 50 = .ok (.astore 4, 2) := by decide +kernel
theorem dX1_doOpen_52 : decode cX1_doOpen 52 = .ok (.aload 4, 2) := by decide +kernel
theorem dX1_doOpen_54 : decode cX1_doOpen 54 = .ok (.ifnonnull 33, 3) := by decide +kernel
theorem dX1_doOpen_57 : decode cX1_doOpen 57 = .ok (.iload_n 1, 1) := by decide +kernel
theorem dX1_doOpen_58 : decode cX1_doOpen 58 = .ok (.iconst 4, 1) := by decide +kernel
theorem dX1_doOpen_59 : decode cX1_doOpen 59 = .ok (.iand, 1) := by decide +kernel
theorem dX1_doOpen_60 : decode cX1_doOpen 60 = .ok (.ifCond .ne 13, 3) := by decide +kernel
theorem dX1_doOpen_63 : decode cX1_doOpen 63 = .ok (.aload_n 0, 1) := by decide +kernel
theorem dX1_doOpen_64 : decode cX1_doOpen 64 = .ok (.getfield 53, 3) := by decide +kernel
theorem dX1_doOpen_67 : decode cX1_doOpen 67 = .ok (.bipush (-2), 2) := by decide +kernel
theorem dX1_doOpen_69 : decode cX1_doOpen 69 = .ok (.invokevirtual 364, 3) := by decide +kernel
theorem dX1_doOpen_72 : decode cX1_doOpen 72 = .ok (.athrow, 1) := by decide +kernel
theorem dX1_doOpen_73 : decode cX1_doOpen 73 = .ok (.aload_n 0, 1) := by decide +kernel
theorem dX1_doOpen_74 : decode cX1_doOpen 74 = .ok (.getfield 76, 3) := by decide +kernel
theorem dX1_doOpen_77 : decode cX1_doOpen 77 = .ok (.aload_n 3, 1) := by decide +kernel
theorem dX1_doOpen_78 : decode cX1_doOpen 78 = .ok (.iconst 1, 1) := by decide +kernel
theorem dX1_doOpen_79 : decode cX1_doOpen 79 = .ok (.invokevirtual 623, 3) := by decide +kernel
theorem dX1_doOpen_82 : decode cX1_doOpen 82 = .ok (.astore 4, 2) := by decide +kernel
theorem dX1_doOpen_84 : decode cX1_doOpen 84 = .ok (.goto 62, 3) := by decide +kernel
theorem dX1_doOpen_87 : decode cX1_doOpen 87 = .ok (.iload_n 1, 1) := by decide +kernel
theorem dX1_doOpen_88 : decode cX1_doOpen 88 = .ok (.bipush 8, 2) := by decide +kernel
theorem dX1_doOpen_90 : decode cX1_doOpen 90 = .ok (.iand, 1) := by decide +kernel
theorem dX1_doOpen_91 : decode cX1_doOpen 91 = .ok (.ifCond .le 13, 3) := by decide +kernel
theorem dX1_doOpen_94 : decode cX1_doOpen 94 = .ok (.aload_n 0, 1) := by decide +kernel
theorem dX1_doOpen_95 : decode cX1_doOpen 95 = .ok (.getfield 53, 3) := by decide +kernel
theorem dX1_doOpen_98 : decode cX1_doOpen 98 = .ok (.bipush (-3), 2) := by decide +kernel
theorem dX1_doOpen_100 : decode cX1_doOpen 100 = .ok (.invokevirtual 364, 3) := by decide +kernel
theorem dX1_doOpen_103 : decode cX1_doOpen 103 = .ok (.athrow, 1) := by decide +kernel
theorem dX1_doOpen_104 : decode cX1_doOpen 104 = .ok (.aload 4, 2) := by decide +kernel
theorem dX1_doOpen_106 : decode cX1_doOpen 106 = .ok (.invokevirtual 403, 3) := by decide +kernel
theorem dX1_doOpen_109 : decode cX1_doOpen 109 = .ok (.ifCond .eq 13, 3) := by decide +kernel
theorem dX1_doOpen_112 : decode cX1_doOpen 112 = .ok (.aload_n 0, 1) := by decide +kernel
theorem dX1_doOpen_113 : decode cX1_doOpen 113 = .ok (.getfield 53, 3) := by decide +kernel
theorem dX1_doOpen_116 : decode cX1_doOpen 116 = .ok (.bipush (-4), 2) := by decide +kernel
theorem dX1_doOpen_118 : decode cX1_doOpen 118 = .ok (.invokevirtual 364, 3) := by decide +kernel
theorem dX1_doOpen_121 : decode cX1_doOpen 121 = .ok (.athrow, 1) := by decide +kernel
theorem dX1_doOpen_122 : decode cX1_doOpen 122 = .ok (.iload_n 1, 1) := by decide +kernel
theorem dX1_doOpen_123 : decode cX1_doOpen 123 = .ok (.bipush 16, 2) := by decide +kernel
theorem dX1_doOpen_125 : decode cX1_doOpen 125 = .ok (.iand, 1) := by decide +kernel
theorem dX1_doOpen_126 : decode cX1_doOpen 126 = .ok (.ifCond .le 20, 3) := by decide +kernel
theorem dX1_doOpen_129 : decode cX1_doOpen 129 = .ok (.aload_n 0, 1) := by decide +kernel
theorem dX1_doOpen_130 : decode cX1_doOpen 130 = .ok (.iconst 0, 1) := by decide +kernel
theorem dX1_doOpen_131 : decode cX1_doOpen 131 = .ok (.aload 4, 2) := by decide +kernel
theorem dX1_doOpen_133 : decode cX1_doOpen 133 = .ok (.getfield 448, 3) := by decide +kernel
theorem dX1_doOpen_136 : decode cX1_doOpen 136 = .ok (.invokevirtual 588, 3) := by decide +kernel
theorem dX1_doOpen_139 : decode cX1_doOpen 139 = .ok (.aload_n 0, 1) := by decide +kernel
theorem dX1_doOpen_140 : decode cX1_doOpen 140 = .ok (.aload 4, 2) := by decide +kernel
theorem dX1_doOpen_142 : decode cX1_doOpen 142 = .ok (.iconst 0, 1) := by decide +kernel
theorem dX1_doOpen_143 : decode cX1_doOpen 143 = .ok (.invokevirtual 627, 3) := by decide +kernel
theorem dX1_doOpen_146 : decode cX1_doOpen 146 = .ok (.aload_n 0, 1) := by decide +kernel
theorem dX1_doOpen_147 : decode cX1_doOpen 147 = .ok (.iload_n 2, 1) := by decide +kernel
theorem dX1_doOpen_148 : decode cX1_doOpen 148 = .ok (.invokevirtual 630, 3) := by decide +kernel
theorem dX1_doOpen_151 : decode cX1_doOpen 151 = .ok (.astore 5, 2) := by decide +kernel
theorem dX1_doOpen_153 : decode cX1_doOpen 153 = .ok (.aload 5, 2) := by decide +kernel
theorem dX1_doOpen_155 : decode cX1_doOpen 155 = .ok (.aload 4, 2) := by decide +kernel
theorem dX1_doOpen_157 : decode cX1_doOpen 157 = .ok (.putfield 255, 3) := by decide +kernel
theorem dX1_doOpen_160 : decode cX1_doOpen 160 = .ok (.aload 5, 2) := by decide +kernel
theorem dX1_doOpen_162 : decode cX1_doOpen 162 = .ok (.iload_n 1, 1) := by decide +kernel
theorem dX1_doOpen_163 : decode cX1_doOpen 163 = .ok (.iconst 1, 1) := by decide +kernel
theorem dX1_doOpen_164 : decode cX1_doOpen 164 = .ok (.iand, 1) := by decide +kernel
theorem dX1_doOpen_165 : decode cX1_doOpen 165 = .ok (.ifCond .le 7, 3) := by decide +kernel
theorem dX1_doOpen_168 : decode cX1_doOpen 168 = .ok (.iconst 1, 1) := by decide +kernel
theorem dX1_doOpen_169 : decode cX1_doOpen 169 = .ok (.goto 4, 3) := by decide +kernel
theorem dX1_doOpen_172 : decode cX1_doOpen 172 = .ok (.iconst 0, 1) := by decide +kernel
theorem dX1_doOpen_173 : decode cX1_doOpen 173 = .ok (.putfield 608, 3) := by decide +kernel
theorem dX1_doOpen_176 : decode cX1_doOpen 176 = .ok (.aload 5, 2) := by decide +kernel
theorem dX1_doOpen_178 : decode cX1_doOpen 178 = .ok (.iload_n 1, 1) := by decide +kernel
theorem dX1_doOpen_179 : decode cX1_doOpen 179 = .ok (.iconst 2, 1) := by decide +kernel
theorem dX1_doOpen_180 : decode cX1_doOpen 180 = .ok (.iand, 1) := by decide +kernel
theorem dX1_doOpen_181 : decode cX1_doOpen 181 = .ok (.ifCond .le 7, 3) := by decide +kernel
theorem dX1_doOpen_184 : decode cX1_doOpen 184 = .ok (.iconst 1, 1) := by decide +kernel
theorem dX1_doOpen_185 : decode cX1_doOpen 185 = .ok (.goto 4, 3) := by decide +kernel
theorem dX1_doOpen_188 : decode cX1_doOpen 188 = .ok (.iconst 0, 1) := by decide +kernel
theorem dX1_doOpen_189 : decode cX1_doOpen 189 = .ok (.putfield 611, 3) := by decide +kernel
theorem dX1_doOpen_192 : decode cX1_doOpen 192 = .ok (.aload 5, 2) := by decide +kernel
theorem dX1_doOpen_194 : decode cX1_doOpen 194 = .ok (.iload_n 1, 1) := by decide +kernel
theorem dX1_doOpen_195 : decode cX1_doOpen 195 = .ok (.bipush 32, 2) := by decide +kernel
theorem dX1_doOpen_197 : decode cX1_doOpen 197 = .ok (.iand, 1) := by decide +kernel
theorem dX1_doOpen_198 : decode cX1_doOpen 198 = .ok (.ifCond .le 7, 3) := by decide +kernel
theorem dX1_doOpen_201 : decode cX1_doOpen 201 = .ok (.iconst 1, 1) := by decide +kernel
theorem dX1_doOpen_202 : decode cX1_doOpen 202 = .ok (.goto 4, 3) := by decide +kernel
theorem dX1_doOpen_205 : decode cX1_doOpen 205 = .ok (.iconst 0, 1) := by decide +kernel
theorem dX1_doOpen_206 : decode cX1_doOpen 206 = .ok (.putfield 613, 3) := by decide +kernel
theorem dX1_doOpen_209 : decode cX1_doOpen 209 = .ok (.iload_n 2, 1) := by decide +kernel
theorem dX1_doOpen_210 : decode cX1_doOpen 210 = .ok (.ireturn, 1) := by decide +kernel
theorem newo_eq {Q : Outcome → xS → Prop} {T : xT} {I : xI} {R : xR} {t : xI} {u : xR} {J : xJ} {Z : xR} {me d fo : Nat} (h : fo = kFreeO I R) (k : Q (.returned (some (.ref (T.ad 7 fo)))) (kNewI (kI I t) fo, J, kNewR (kR R u) me d fo, Z, T)) : Q (.returned (some (.ref (T.ad 7 (kFreeO (kI I t) (kR R u)))))) (kNewI (kI I t) (kFreeO (kI I t) (kR R u)), J, kNewR (kR R u) me d (kFreeO (kI I t) (kR R u)), Z, T) := by
  have e : kFreeO (kI I t) (kR R u) = fo := h.symm
  rw [e]; exact k
set_option maxHeartbeats 4000000 in
set_option maxRecDepth 100000 in
theorem s146_open {G : xG} {n a b : Nat} {Q : Outcome → xS → Prop} {x : kX} {I : xI} {R : xR} {v : kV} {th : List xTh} {mm : Nat} (hT : KT x v th) (hK : KI (I, R, th) x.N mm) {d ai f : Nat} {hw : Int32} (hd8 : d < 8) (haN : ai < x.N) (hfN : f < x.N) (hmm : mm + 5 < 16384) {me : Nat} (hme : R 0 0 19 = some me) (hme16 : me < 16) (hn : 12 ≤ n) (hq : kOs Q x (kOpE (I, R, th) me d f hw)) : X G mX1_doOpen n a b Q (kS I R x v) 146 [(1, .ref (x.ad 0 0)), (1, .int hw), (1, .int (nI d)), (1, .ref (x.ad 6 ai)), (1, .ref (x.ad 6 f)), xo] [] := by
  have hnb := hT.ks.nb
  unfold kOpE at hq
  obtain ⟨hex_, hq⟩ := hq.as
  refine x_aload_n 147 dX1_doOpen_146 rfl rfl ?_
  refine x_iload_n 148 dX1_doOpen_147 rfl rfl ?_
  obtain ⟨fo, hfo⟩ : ∃ fo, fo = kFreeO I R := ⟨_, rfl⟩
  have hfo3 := (kFreeO_lt hex_).1
  rw [← hfo] at hfo3 hq
  refine x_callV (as := [.int (nI d)]) (rest := []) (i := 0) (n' := n - 1) 151 dX1_doOpen_148 rfl mv_X1_630 rfl rfl (hT.ks.l0 (by omega)) (xnh rfl) (by omega) (xst (Nat.le_of_ble_eq_true rfl)) (c_X1_newOpening (I := kI I v.t) (R := kR R v.u) hT.ks (hK.rf.k (u := v.u)) hme hme16 hex_ (by omega) (by omega) (newo_eq hfo ?_))
  change X _ _ _ _ _ _ _ _ _ _
  refine k_nmA (v := v) (A1 := (kNewI I fo)) kI_kNewI fun I1 hI1 => ?_
  refine k_nmC (v := v) (C1 := (kNewR R me d fo)) kR_kNewR fun R1 hR1 => ?_
  refine x_astore 153 [(1, .ref (x.ad 0 0)), (1, .int hw), (1, .int (nI d)), (1, .ref (x.ad 6 ai)), (1, .ref (x.ad 6 f)), (1, .ref (x.ad 7 fo))] dX1_doOpen_151 rfl (by decide) rfl ?_
  refine x_aload 155 dX1_doOpen_153 rfl rfl ?_
  refine x_aload 157 dX1_doOpen_155 rfl rfl ?_
  refine x_asR ?_
  refine x_putr 160 dX1_doOpen_157 rfl fl_X1_255 (Or.inl ⟨_, rfl⟩) (hT.ks.l7 hfo3) (fun _ h => by cases h; exact (hT.ks.l6 (by omega))) ?_
  refine k_nmC (v := v) (kR_xu (c := 7) rfl) fun R2 hR2 => ?_
  refine x_aload 162 dX1_doOpen_160 rfl rfl ?_
  have J173 : ∀ vj_ : Int32, vj_ = b2i (¬ hw &&& 1 ≤ 0) → X G mX1_doOpen n a b Q (kS I1 R2 x v) 173 [(1, .ref (x.ad 0 0)), (1, .int hw), (1, .int (nI d)), (1, .ref (x.ad 6 ai)), (1, .ref (x.ad 6 f)), (1, .ref (x.ad 7 fo))] [.int vj_, .ref (x.ad 7 fo)] := by
    intro vj_ hv_; subst hv_
    refine x_puti 176 dX1_doOpen_173 rfl fl_X1_608 (x_nz (b2i_01 _)) (x_fz0 (b2i_01 _)) (hT.ks.l7 hfo3) ?_
    refine k_nmA (v := v) (kI_xu (c := 7) rfl) fun I2 hI2 => ?_
    refine x_aload 178 dX1_doOpen_176 rfl rfl ?_
    have J189 : ∀ vj_ : Int32, vj_ = b2i (¬ hw &&& 2 ≤ 0) → X G mX1_doOpen n a b Q (kS I2 R2 x v) 189 [(1, .ref (x.ad 0 0)), (1, .int hw), (1, .int (nI d)), (1, .ref (x.ad 6 ai)), (1, .ref (x.ad 6 f)), (1, .ref (x.ad 7 fo))] [.int vj_, .ref (x.ad 7 fo)] := by
      intro vj_ hv_; subst hv_
      refine x_puti 192 dX1_doOpen_189 rfl fl_X1_611 (x_nz (b2i_01 _)) (x_fz0 (b2i_01 _)) (hT.ks.l7 hfo3) ?_
      refine k_nmA (v := v) (kI_xu (c := 7) rfl) fun I3 hI3 => ?_
      refine x_aload 194 dX1_doOpen_192 rfl rfl ?_
      have J206 : ∀ vj_ : Int32, vj_ = b2i (¬ hw &&& 32 ≤ 0) → X G mX1_doOpen n a b Q (kS I3 R2 x v) 206 [(1, .ref (x.ad 0 0)), (1, .int hw), (1, .int (nI d)), (1, .ref (x.ad 6 ai)), (1, .ref (x.ad 6 f)), (1, .ref (x.ad 7 fo))] [.int vj_, .ref (x.ad 7 fo)] := by
        intro vj_ hv_; subst hv_
        refine x_puti 209 dX1_doOpen_206 rfl fl_X1_613 (x_nz (b2i_01 _)) (x_fz0 (b2i_01 _)) (hT.ks.l7 hfo3) ?_
        refine k_nmA (v := v) (kI_xu (c := 7) rfl) fun I4 hI4 => ?_
        refine x_iload_n 210 dX1_doOpen_209 rfl rfl ?_
        refine x_ireturn dX1_doOpen_210 rfl ?_
        rw [hI4, hI3, hI2, hI1, hR2, hR1]
        exact hq.ret hT
      refine x_iload_n 195 dX1_doOpen_194 rfl rfl ?_
      refine x_bipush (v := 32) 197 dX1_doOpen_195 rfl rfl ?_
      refine x_iand 198 dX1_doOpen_197 rfl ?_
      refine x_if_le 205 201 dX1_doOpen_198 (by decide) rfl (fun c198 => ?_) (fun c198 => ?_)
      · skip
        refine x_iconst (v := 0) 206 dX1_doOpen_205 rfl rfl ?_
        exact J206 _ (b2i_f (fun h => h c198)).symm
      · skip
        refine x_iconst (v := 1) 202 dX1_doOpen_201 rfl rfl ?_
        refine x_goto 206 dX1_doOpen_202 (by decide) ?_
        exact J206 _ (b2i_t (c198)).symm
    refine x_iload_n 179 dX1_doOpen_178 rfl rfl ?_
    refine x_iconst (v := 2) 180 dX1_doOpen_179 rfl rfl ?_
    refine x_iand 181 dX1_doOpen_180 rfl ?_
    refine x_if_le 188 184 dX1_doOpen_181 (by decide) rfl (fun c181 => ?_) (fun c181 => ?_)
    · skip
      refine x_iconst (v := 0) 189 dX1_doOpen_188 rfl rfl ?_
      exact J189 _ (b2i_f (fun h => h c181)).symm
    · skip
      refine x_iconst (v := 1) 185 dX1_doOpen_184 rfl rfl ?_
      refine x_goto 189 dX1_doOpen_185 (by decide) ?_
      exact J189 _ (b2i_t (c181)).symm
  refine x_iload_n 163 dX1_doOpen_162 rfl rfl ?_
  refine x_iconst (v := 1) 164 dX1_doOpen_163 rfl rfl ?_
  refine x_iand 165 dX1_doOpen_164 rfl ?_
  refine x_if_le 172 168 dX1_doOpen_165 (by decide) rfl (fun c165 => ?_) (fun c165 => ?_)
  · skip
    refine x_iconst (v := 0) 173 dX1_doOpen_172 rfl rfl ?_
    exact J173 _ (b2i_f (fun h => h c165)).symm
  · skip
    refine x_iconst (v := 1) 169 dX1_doOpen_168 rfl rfl ?_
    refine x_goto 173 dX1_doOpen_169 (by decide) ?_
    exact J173 _ (b2i_t (c165)).symm
theorem kWf.slen {A : xI} {N i m : Nat} (h : kWf A N) (hm : m ≤ 8192) : kWf (kSetLen A i m) N := by
  unfold kSetLen xfil; exact (h.ur (fun _ => rfl)).ul rfl (kLn.of hm (by omega))
theorem kNum.slen {A : xI} {N i m : Nat} (h : kNum A N) : kNum (kSetLen A i m) N := by
  unfold kSetLen
  exact ⟨fun j hj => by rw [xu_k (by decide), xfil_c (by decide)]; exact h.1 j hj, fun p hp => by rw [xu_c (by decide), xfil_c (by decide)]; exact h.2 p hp⟩
set_option maxHeartbeats 4000000 in
set_option maxRecDepth 100000 in
theorem c_X1_doOpen {G : xG} {n : Nat} {Q : Outcome → xS → Prop} {x : kX} {I : xI} {R : xR} {v : kV} {th : List xTh} {mm : Nat} (hT : KT x v th) (hK : KI (I, R, th) x.N mm) {st : Nat} {fr lg : Nat → Nat} (hp : PS I 0 st fr lg) {tp : Nat → Int32} (htp : I 27 0 = tp) {hw : Int32} (hmm : mm + 100 < 16384) {me : Nat} (hme : R 0 0 19 = some me) (hme16 : me < 16) (hn : 14 ≤ n) (hq : kOs Q x (kDoOpen x.N (I, R, th) me tp fr lg st hw)) : xCall G mX1_doOpen n [.ref (x.ad 0 0), .int hw] (kS I R x v) Q := by
  refine x_met (L0 := [(1, .ref (x.ad 0 0)), (1, .int hw), xo, xo, xo, xo]) (by decide +kernel) rfl ⟨Nat.le_of_ble_eq_true rfl, rfl⟩ ?_
  have hnb := hT.ks.nb
  unfold kDoOpen at hq
  have hp12 := hp.2.1
  refine x_aload_n 1 dX1_doOpen_0 rfl rfl ?_
  refine x_iconst (v := 1) 2 dX1_doOpen_1 rfl rfl ?_
  refine x_callV (as := [.int (nI 1)]) (rest := []) (i := 0) (n' := n - 1) 5 dX1_doOpen_2 rfl mv_X1_546 rfl rfl (hT.ks.l0 (by omega)) (xnh rfl) (by omega) (xst (Nat.le_of_ble_eq_true rfl)) (c_X1_freeDescriptor (I := kI I v.t) (R := kR R v.u) (m := 1) hT.ks ((kSx.rfl (s := (I, R, th))).2 0 0 19 rfl |>.trans hme) hme16 (by omega) (by omega) ?_ ?_)
  · skip
    intro hfd
    have hfd : ¬ 8 - cntN (fun k => ¬ (I, R, th).2.1 46 me k = none) 8 < 1 := hfd
    rw [if_neg hfd] at hq
    have hdf := kFdN_s (s := (I, R, th)) (by omega) hfd
    have hdf2 := hdf.2
    change X _ _ _ _ _ _ _ _ _ _
    refine x_vi (w := nI (kFdN (I, R, th) me)) hdf.1 ?_
    refine x_istore_n 6 [(1, .ref (x.ad 0 0)), (1, .int hw), (1, .int (nI (kFdN (I, R, th) me))), xo, xo, xo] dX1_doOpen_5 rfl (by decide) rfl ?_
    refine x_aload_n 7 dX1_doOpen_6 rfl rfl ?_
    refine x_getz 10 dX1_doOpen_7 rfl fl_X1_76 (hT.ks.l0 (by omega)) (hT.ks.z0_23 (by omega)) ?_
    refine x_callV (as := []) (rest := []) (i := 0) (n' := n - 1) 13 dX1_doOpen_10 rfl mv_X1_520 rfl rfl (hT.ks.l4 (by omega)) (xnh rfl) (by omega) (xst (Nat.le_of_ble_eq_true rfl)) (c_X5_hasLast (I := kI I v.t) (fr := fr) (lg := lg) hT.ks (by omega) hp (by omega) ?_)
    change X _ _ _ _ _ _ _ _ _ _
    refine x_vi (w := b2i (pLast (I 27 0) st fr lg)) rfl ?_
    refine x_vi (w := b2i (pLast tp st fr lg)) (by rw [← htp]) ?_
    refine x_if_ne 34 16 dX1_doOpen_13 (by decide) rfl (fun c13 => ?_) (fun c13 => ?_)
    · skip
      have c13 : pLast tp st fr lg := b2i_n0.mp c13
      rw [cif_t c13] at hq
      have h1 : 1 ≤ st := c13.1
      refine x_aload_n 35 dX1_doOpen_34 rfl rfl ?_
      refine x_getz 38 dX1_doOpen_35 rfl fl_X1_76 (hT.ks.l0 (by omega)) (hT.ks.z0_23 (by omega)) ?_
      try unfold kLst at hq
      obtain ⟨hw_1, hq⟩ := hq.asB
      have hwk_1 := kWk_some hw_1
      have hwN_1 := hK.rf.wk hwk_1
      obtain ⟨r_1, hd1⟩ : ∃ r : kO × Nat, r = kLast x.N (I, R, th) me tp fr lg (kBeg ((I, R, th)).1 0 (kWk (I, R, th) me)) st := ⟨_, rfl⟩
      rw [← hd1] at hq
      have hKS_1 := KI.last (me := me) (tp := tp) (fr := fr) (lg := lg) hK (d := (kBeg ((I, R, th)).1 0 (kWk (I, R, th) me))) (kBeg_lt hwN_1) (by omega) (st := st) (by omega)
      rw [← hd1] at hKS_1
      obtain ⟨hKa_1, hSa_1, hdN_1⟩ := hKS_1
      have hK_1 := hKa_1.le (m' := mm + 12) (by omega)
      have hS_1 := (kSx.rfl (s := (I, R, th))).trans hSa_1
      refine x_callV (as := []) (rest := []) (i := 0) (n' := n - 1) 41 dX1_doOpen_38 rfl mv_X1_616 rfl rfl (hT.ks.l4 (by omega)) (xnh rfl) (by omega) (xst (Nat.le_of_ble_eq_true rfl)) (c_X5_last (i := 0) (fr := fr) (lg := lg) hT hK (by omega) (hp.fx (kSx.rfl (s := (I, R, th))).1) (tp_fx htp (kSx.rfl (s := (I, R, th))).1) (by omega) ((kSx.rfl (s := (I, R, th))).2 0 0 19 rfl |>.trans hme) hme16 hwk_1 hwN_1 (by omega) (by omega) (kOutP hd1 ⟨?_, ?_⟩))
      · skip
        intro hz1 w1 hU1
        change X _ _ _ _ _ _ _ _ _ _
        rw [kB_ok hz1] at hq
        refine x_astore_n 42 [(1, .ref (x.ad 0 0)), (1, .int hw), (1, .int (nI (kFdN (I, R, th) me))), (1, .ref (x.ad 6 r_1.2)), xo, xo] dX1_doOpen_41 rfl (by decide) rfl ?_
        refine x_aload_n 43 dX1_doOpen_42 rfl rfl ?_
        refine x_getz 46 dX1_doOpen_43 rfl fl_X1_76 (hU1.ks.l0 (by omega)) (hU1.ks.z0_23 (by omega)) ?_
        refine x_aload_n 47 dX1_doOpen_46 rfl rfl ?_
        refine x_callV (as := [.ref (x.ad 6 r_1.2)]) (rest := []) (i := 0) (n' := n - 1) 50 dX1_doOpen_47 rfl mv_X1_619 rfl rfl (hU1.ks.l4 (by omega)) (xnh rfl) (by omega) (xst (Nat.le_of_ble_eq_true rfl)) (c_X5_lastEntry (I := kI r_1.1.2.1 w1.t) (i := 0) (fr := fr) (lg := lg) (d := r_1.2) hU1.ks (by omega) (show PS r_1.1.2.1 0 st fr lg from (hp.fx (hS_1).1)) (by omega) (by omega) (fun d_ s_ _ _ => hK_1.wf.now d_ s_) (by omega) ?_)
        change X _ _ _ _ _ _ _ _ _ _
        refine x_vr (w := iEntry r_1.1.2.1 r_1.2 tp (fr (st - 1)) (lg (st - 1))) (by rw [← (tp_fx htp (hS_1).1)]; rfl) ?_
        refine x_nmr fun r1 hr1 => ?_
        refine x_astore_r 52 [(1, .ref (x.ad 0 0)), (1, .int hw), (1, .int (nI (kFdN (I, R, th) me))), (1, .ref (x.ad 6 r_1.2)), (1, va_re (x.ad 6) r1), xo] dX1_doOpen_50 rfl (by decide) rfl ?_
        refine x_aload_r 54 dX1_doOpen_52 rfl rfl ?_
        refine x_ifnonnull 87 57 dX1_doOpen_54 (by decide) rfl (fun j1 c54 => ?_) (fun c54 => ?_)
        · skip
          rw [← hr1, c54] at hq
          dsimp only at hq
          have hjN := iEntry_N hK_1.wf (by omega) (by omega) hr1 c54
          refine x_iload_n 88 dX1_doOpen_87 rfl rfl ?_
          refine x_bipush (v := 8) 90 dX1_doOpen_88 rfl rfl ?_
          refine x_iand 91 dX1_doOpen_90 rfl ?_
          refine x_if_le 104 94 dX1_doOpen_91 (by decide) rfl (fun c91 => ?_) (fun c91 => ?_)
          · skip
            rw [if_pos c91] at hq
            refine x_aload_r 106 dX1_doOpen_104 rfl rfl ?_
            refine x_some c54 ?_
            refine x_callV (as := []) (rest := []) (i := j1) (n' := n - 1) 109 dX1_doOpen_106 rfl mv_X1_403 rfl rfl (hU1.ks.l6 (by omega)) (xnh rfl) (by omega) (xst (Nat.le_of_ble_eq_true rfl)) (c_X7_isDirectory hU1.ks (by omega) (by omega) ?_)
            change X _ _ _ _ _ _ _ _ _ _
            refine x_vi (w := b2i (iDir r_1.1.2.1 j1)) rfl ?_
            refine x_if_eq 122 112 dX1_doOpen_109 (by decide) rfl (fun c109 => ?_) (fun c109 => ?_)
            · skip
              have c109 : ¬ (iDir r_1.1.2.1 j1) := b2i_0.mp c109
              rw [cif_f (show ¬ iDir r_1.1.2.1 j1 from c109)] at hq
              refine x_iload_n 123 dX1_doOpen_122 rfl rfl ?_
              refine x_bipush (v := 16) 125 dX1_doOpen_123 rfl rfl ?_
              refine x_iand 126 dX1_doOpen_125 rfl ?_
              refine x_if_le 146 129 dX1_doOpen_126 (by decide) rfl (fun c126 => ?_) (fun c126 => ?_)
              · skip
                rw [c54]
                rw [if_pos c126] at hq
                exact s146_open hU1 hK_1 hdf2 (by omega) (by omega) (by omega) ((hS_1).2 0 0 19 rfl |>.trans hme) hme16 (by omega) hq
              · skip
                rw [if_neg c126] at hq
                refine x_aload_n 130 dX1_doOpen_129 rfl rfl ?_
                refine x_iconst (v := 0) 131 dX1_doOpen_130 rfl rfl ?_
                refine x_aload_r 133 dX1_doOpen_131 rfl rfl ?_
                refine x_some c54 ?_
                refine x_geti 136 dX1_doOpen_133 rfl fl_X1_448 (hU1.ks.l6 (by omega)) ?_
                refine x_vi (w := r_1.1.2.1 6 j1 0) rfl ?_
                refine x_vi (w := nI j1) (hK_1.nm.1 j1 (by omega)) ?_
                obtain ⟨r_2, hd2⟩ : ∃ r : kO, r = kAccess x.N r_1.1.2 me 0 (nI j1) 0 0 1 := ⟨_, rfl⟩
                rw [← hd2] at hq
                have hK_2 : KI r_2.2 x.N ((mm + 12) + 1) := by rw [hd2]; exact hK_1.access (hoaN (g := 0) (by omega) (kOf0 (by omega)))
                have hS_2 : kSx (I, R, th) r_2.2 := (hS_1).trans (by rw [hd2]; exact sx_access)
                refine x_callV (as := [.int 0, .int (nI j1)]) (rest := []) (i := 0) (n' := n - 1) 139 dX1_doOpen_136 rfl mv_X1_588 rfl rfl (hU1.ks.l0 (by omega)) (xnh rfl) (by omega) (xst (Nat.le_of_ble_eq_true rfl)) (c_X1_writes (g := 0) (oa := nI j1) hU1 hK_1 (hoaN (g := 0) (by omega) (kOf0 (by omega))) (by omega) ((hS_1).2 0 0 19 rfl |>.trans hme) hme16 (by omega) (kOutN hd2 ⟨?_, ?_⟩))
                · skip
                  intro hz2 w2 hU2
                  change X _ _ _ _ _ _ _ _ _ _
                  rw [kU_ok hz2] at hq
                  refine x_aload_n 140 dX1_doOpen_139 rfl rfl ?_
                  refine x_aload_r 142 dX1_doOpen_140 rfl rfl ?_
                  refine x_some c54 ?_
                  refine x_iconst (v := 0) 143 dX1_doOpen_142 rfl rfl ?_
                  refine x_callV (as := [.ref (x.ad 6 j1), .int (nI 0)]) (rest := []) (i := 0) (n' := n - 1) 146 dX1_doOpen_143 rfl mv_X1_627 rfl rfl (hU2.ks.l0 (by omega)) (xnh rfl) (by omega) (xst (Nat.le_of_ble_eq_true rfl)) (c_X1_setLength (I := kI r_2.2.1 w2.t) hU2.ks (by omega) (by omega) (hK_2.wf.len _) (by omega) ?_)
                  change X _ _ _ _ _ _ _ _ _ _
                  refine k_nmA (v := w2) (A1 := (kSetLen r_2.2.1 j1 0)) kI_kSetLen fun I1 hI1 => ?_
                  rw [c54]
                  have hKl : KI (kSetLen r_2.2.1 j1 0, r_2.2.2.1, r_2.2.2.2) x.N ((mm + 13)) := ⟨hK_2.wf.slen (by omega), hK_2.rf, hK_2.ok, hK_2.nm.slen, hK_2.ln⟩
                  rw [hI1]
                  exact s146_open hU2 hKl hdf2 (by omega) (by omega) (by omega) ((hS_2).2 0 0 19 rfl |>.trans hme) hme16 (by omega) hq
                · skip
                  intro hz2 w2 hU2
                  rw [kU_no hz2] at hq
                  exact hq.no hz2 hU2
            · skip
              have c109 : iDir r_1.1.2.1 j1 := b2i_n0.mp c109
              rw [cif_t (show iDir r_1.1.2.1 j1 from c109)] at hq
              refine x_aload_n 113 dX1_doOpen_112 rfl rfl ?_
              refine x_getz 116 dX1_doOpen_113 rfl fl_X1_53 (hU1.ks.l0 (by omega)) (hU1.ks.z0_10 (by omega)) ?_
              refine x_bipush (v := -4) 118 dX1_doOpen_116 rfl rfl ?_
              refine x_callV (as := [.int (-4)]) (rest := []) (i := 0) (n' := n - 1) 121 dX1_doOpen_118 rfl mv_X1_364 rfl rfl (hU1.ks.l3 (by omega)) (xnh rfl) (by omega) (xst (Nat.le_of_ble_eq_true rfl)) (c_X4_by hU1.ks (by omega) ?_)
              change X _ _ _ _ _ _ _ _ _ _
              refine k_nmA (v := w1) (A1 := (xu r_1.1.2.1 3 0 0 ((-4)))) (by (repeat (first | rw [kI_xu] | rw [kI_xur] | rw [kI_xfil])) <;> rfl) fun I1 hI1 => ?_
              refine x_athrow dX1_doOpen_121 (xnh rfl) ?_
              rw [hI1]
              exact hq.thr (by decide) hU1
          · skip
            rw [if_neg c91] at hq
            refine x_aload_n 95 dX1_doOpen_94 rfl rfl ?_
            refine x_getz 98 dX1_doOpen_95 rfl fl_X1_53 (hU1.ks.l0 (by omega)) (hU1.ks.z0_10 (by omega)) ?_
            refine x_bipush (v := -3) 100 dX1_doOpen_98 rfl rfl ?_
            refine x_callV (as := [.int (-3)]) (rest := []) (i := 0) (n' := n - 1) 103 dX1_doOpen_100 rfl mv_X1_364 rfl rfl (hU1.ks.l3 (by omega)) (xnh rfl) (by omega) (xst (Nat.le_of_ble_eq_true rfl)) (c_X4_by hU1.ks (by omega) ?_)
            change X _ _ _ _ _ _ _ _ _ _
            refine k_nmA (v := w1) (A1 := (xu r_1.1.2.1 3 0 0 ((-3)))) (by (repeat (first | rw [kI_xu] | rw [kI_xur] | rw [kI_xfil])) <;> rfl) fun I1 hI1 => ?_
            refine x_athrow dX1_doOpen_103 (xnh rfl) ?_
            rw [hI1]
            exact hq.thr (by decide) hU1
        · skip
          rw [← hr1, c54] at hq
          dsimp only at hq
          refine x_iload_n 58 dX1_doOpen_57 rfl rfl ?_
          refine x_iconst (v := 4) 59 dX1_doOpen_58 rfl rfl ?_
          refine x_iand 60 dX1_doOpen_59 rfl ?_
          refine x_if_ne 73 63 dX1_doOpen_60 (by decide) rfl (fun c60 => ?_) (fun c60 => ?_)
          · skip
            rw [if_neg c60] at hq
            refine x_aload_n 74 dX1_doOpen_73 rfl rfl ?_
            refine x_getz 77 dX1_doOpen_74 rfl fl_X1_76 (hU1.ks.l0 (by omega)) (hU1.ks.z0_23 (by omega)) ?_
            refine x_aload_n 78 dX1_doOpen_77 rfl rfl ?_
            refine x_iconst (v := 1) 79 dX1_doOpen_78 rfl rfl ?_
            obtain ⟨r_2, hd2⟩ : ∃ r : kO × Nat, r = kMake x.N r_1.1.2 me tp fr lg (st - 1) r_1.2 1 := ⟨_, rfl⟩
            rw [← hd2] at hq
            have hKS_2 := KI.make (me := me) (tp := tp) (fr := fr) (lg := lg) (k := st - 1) (kd := 1) hK_1 (d := r_1.2) (by omega) (by omega)
            rw [← hd2] at hKS_2
            obtain ⟨hK_2, hC_2, hdN_2⟩ := hKS_2
            refine x_callV (as := [.ref (x.ad 6 r_1.2), .int 1]) (rest := []) (i := 0) (n' := n - 1) 82 dX1_doOpen_79 rfl mv_X1_623 rfl rfl (hU1.ks.l4 (by omega)) (xnh rfl) (by omega) (xst (Nat.le_of_ble_eq_true rfl)) (c_X5_make (i := 0) (fr := fr) (lg := lg) (d := r_1.2) hU1 hK_1 (by omega) (hp.fx (hS_1).1) (tp_fx htp (hS_1).1) (by omega) (by omega) (by omega) ((hS_1).2 0 0 19 rfl |>.trans hme) hme16 (by omega) (kOutP hd2 ⟨?_, ?_⟩))
            · skip
              intro hz2 w2 hU2
              change X _ _ _ _ _ _ _ _ _ _
              rw [kB_ok hz2] at hq
              have hdN_2 := hdN_2 hz2
              refine x_astore 84 [(1, .ref (x.ad 0 0)), (1, .int hw), (1, .int (nI (kFdN (I, R, th) me))), (1, .ref (x.ad 6 r_1.2)), (1, .ref (x.ad 6 r_2.2)), xo] dX1_doOpen_82 rfl (by decide) rfl ?_
              refine x_goto 146 dX1_doOpen_84 (by decide) ?_
              exact s146_open hU2 hK_2 hdf2 (by omega) (by omega) (by omega) (((hS_1).2.trans hC_2) 0 0 19 rfl |>.trans hme) hme16 (by omega) hq
            · skip
              intro hz2 w2 hU2
              rw [kB_no hz2] at hq
              exact hq.no hz2 hU2
          · skip
            rw [if_pos c60] at hq
            refine x_aload_n 64 dX1_doOpen_63 rfl rfl ?_
            refine x_getz 67 dX1_doOpen_64 rfl fl_X1_53 (hU1.ks.l0 (by omega)) (hU1.ks.z0_10 (by omega)) ?_
            refine x_bipush (v := -2) 69 dX1_doOpen_67 rfl rfl ?_
            refine x_callV (as := [.int (-2)]) (rest := []) (i := 0) (n' := n - 1) 72 dX1_doOpen_69 rfl mv_X1_364 rfl rfl (hU1.ks.l3 (by omega)) (xnh rfl) (by omega) (xst (Nat.le_of_ble_eq_true rfl)) (c_X4_by hU1.ks (by omega) ?_)
            change X _ _ _ _ _ _ _ _ _ _
            refine k_nmA (v := w1) (A1 := (xu r_1.1.2.1 3 0 0 ((-2)))) (by (repeat (first | rw [kI_xu] | rw [kI_xur] | rw [kI_xfil])) <;> rfl) fun I1 hI1 => ?_
            refine x_athrow dX1_doOpen_72 (xnh rfl) ?_
            rw [hI1]
            exact hq.thr (by decide) hU1
      · skip
        intro hz1 w1 hU1
        rw [kB_no hz1] at hq
        exact hq.no hz1 hU1
    · skip
      have c13 : ¬ (pLast tp st fr lg) := b2i_0.mp c13
      rw [cif_f c13] at hq
      refine x_aload_n 17 dX1_doOpen_16 rfl rfl ?_
      refine x_getz 20 dX1_doOpen_17 rfl fl_X1_76 (hT.ks.l0 (by omega)) (hT.ks.z0_23 (by omega)) ?_
      try unfold kFnd at hq
      obtain ⟨hw_1, hq⟩ := hq.asB
      have hwk_1 := kWk_some hw_1
      have hwN_1 := hK.rf.wk hwk_1
      obtain ⟨r_1, hd1⟩ : ∃ r : kO × Nat, r = kWalk x.N (I, R, th) me tp fr lg (kBeg ((I, R, th)).1 0 (kWk (I, R, th) me)) st := ⟨_, rfl⟩
      rw [← hd1] at hq
      have hKS_1 := KI.walk (me := me) (tp := tp) (fr := fr) (lg := lg) hK (d := (kBeg ((I, R, th)).1 0 (kWk (I, R, th) me))) (kBeg_lt hwN_1) (by omega) st
      rw [← hd1] at hKS_1
      obtain ⟨hKa_1, hSa_1, hdN_1⟩ := hKS_1
      have hK_1 := hKa_1.le (m' := mm + 12) (by omega)
      have hS_1 := (kSx.rfl (s := (I, R, th))).trans hSa_1
      refine x_callV (as := []) (rest := []) (i := 0) (n' := n - 1) 23 dX1_doOpen_20 rfl mv_X1_573 rfl rfl (hT.ks.l4 (by omega)) (xnh rfl) (by omega) (xst (Nat.le_of_ble_eq_true rfl)) (c_X5_find (i := 0) (fr := fr) (lg := lg) hT hK (by omega) (hp.fx (kSx.rfl (s := (I, R, th))).1) (tp_fx htp (kSx.rfl (s := (I, R, th))).1) (by omega) ((kSx.rfl (s := (I, R, th))).2 0 0 19 rfl |>.trans hme) hme16 hwk_1 hwN_1 (by omega) (kOutP hd1 ⟨?_, ?_⟩))
      · skip
        intro hz1 w1 hU1
        change X _ _ _ _ _ _ _ _ _ _
        rw [kB_ok hz1] at hq
        refine x_pop 24 dX1_doOpen_23 rfl rfl ?_
        refine x_aload_n 25 dX1_doOpen_24 rfl rfl ?_
        refine x_getz 28 dX1_doOpen_25 rfl fl_X1_53 (hU1.ks.l0 (by omega)) (hU1.ks.z0_10 (by omega)) ?_
        refine x_bipush (v := -4) 30 dX1_doOpen_28 rfl rfl ?_
        refine x_callV (as := [.int (-4)]) (rest := []) (i := 0) (n' := n - 1) 33 dX1_doOpen_30 rfl mv_X1_364 rfl rfl (hU1.ks.l3 (by omega)) (xnh rfl) (by omega) (xst (Nat.le_of_ble_eq_true rfl)) (c_X4_by hU1.ks (by omega) ?_)
        change X _ _ _ _ _ _ _ _ _ _
        refine k_nmA (v := w1) (A1 := (xu r_1.1.2.1 3 0 0 ((-4)))) (by (repeat (first | rw [kI_xu] | rw [kI_xur] | rw [kI_xfil])) <;> rfl) fun I1 hI1 => ?_
        refine x_athrow dX1_doOpen_33 (xnh rfl) ?_
        rw [hI1]
        exact hq.thr (by decide) hU1
      · skip
        intro hz1 w1 hU1
        rw [kB_no hz1] at hq
        exact hq.no hz1 hU1
  · skip
    intro hfd
    have hfd : 8 - cntN (fun k => ¬ (I, R, th).2.1 46 me k = none) 8 < 1 := hfd
    rw [if_pos hfd] at hq
    rw [kI_xu (c := 3) rfl]
    exact hq.thr (by decide) hT
noncomputable def kPf (A : xI) (C : xR) : Nat := (fst0 (fun k => ¬ kHasPipe A C (nI k)) 0 8).getD 8
theorem kPf_e {A : xI} {C : xR} {k : Nat} (h8 : k ≤ 8) (hv : ∀ j, j < k → kHasPipe A C (nI j)) (hk : k = 8 ∨ ¬ kHasPipe A C (nI k)) : kPf A C = k := by
  unfold kPf
  by_cases e : k = 8
  · subst e; rw [fst0_none 8 0 (fun j _ hj h => h (hv j (by omega)))]; rfl
  · rw [fst0_some 8 0 k (by omega) (by omega) (hk.resolve_left e) (fun j _ hj h => h (hv j hj))]; rfl
def kPi1 (A : xI) (o k : Nat) : xI := xu (xu (kNewI A o) 7 o 1 (nI k)) 7 o 3 1
def kPi2 (A : xI) (o k : Nat) : xI := xu (xu (xu (kNewI A o) 7 o 1 (nI k)) 7 o 2 1) 7 o 4 1
noncomputable def kFe (C : xR) (me : Nat) : Int32 := fstI (fun k => C 46 me k = none) 8
noncomputable def kDoP2 (A : xI) (C : xR) (th : List xTh) (me d k e : Nat) : kQ := kAs (kHex A C) (A, C, th) (kRt (kPi2 A (kFreeO A C) k, kNewR C me e (kFreeO A C), th) (nI (d + 8 * e)))
noncomputable def kDoP1 (A : xI) (C : xR) (th : List xTh) (me d k : Nat) : kQ := kAs (kHex A C ∧ (iN (kFe (kNewR C me d (kFreeO A C)) me) < 8 ∧ kFe (kNewR C me d (kFreeO A C)) me = nI (iN (kFe (kNewR C me d (kFreeO A C)) me)))) (A, C, th)
  (kDoP2 (kPi1 A (kFreeO A C) k) (kNewR C me d (kFreeO A C)) th me d k (iN (kFe (kNewR C me d (kFreeO A C)) me)))
noncomputable def kDoPipe (s : kK) (me : Nat) : kQ := if 8 - cntN (fun k => ¬ s.2.1 46 me k = none) 8 < 2 then kRf s (-11) else if kPf s.1 s.2.1 = 8 then kRf s (-11) else kDoP1 (xu s.1 8 (kPf s.1 s.2.1) 1 0) s.2.1 s.2.2 me (kFdN s me) (kPf s.1 s.2.1)
theorem kRef.newr {C : xR} {N me d o : Nat} (h : kRef C N) (ho : o < 384) : kRef (kNewR C me d o) N := by
  unfold kNewR
  exact (h.u (c := 7) (i := o) (k := 0) (w := none) (fun o' e => by cases e)).u (fun o' e => by cases e; exact ⟨fun _ => ho, fun h => by omega⟩)
theorem dX1_doPipe_0 : decode cX1_doPipe 0 = .ok (.aload_n 0, 1) := by decide +kernel
theorem dX1_doPipe_1 : decode cX1_doPipe 1 = .ok (.iconst 2, 1) := by decide +kernel
theorem dX1_doPipe_2 : decode cX1_doPipe 2 = .ok (.invokevirtual 546, 3) := by decide +kernel
theorem dX1_doPipe_5 : decode cX1_doPipe 5 = .ok (.istore_n 1, 1) := by decide +kernel
theorem dX1_doPipe_6 : decode cX1_doPipe 6 = .ok (.iconst 0, 1) := by decide +kernel
theorem dX1_doPipe_7 : decode cX1_doPipe 7 = .ok (.istore_n 2, 1) := by decide +kernel
theorem dX1_doPipe_8 : decode cX1_doPipe 8 = .ok (.iload_n 2, 1) := by decide +kernel
theorem dX1_doPipe_9 : decode cX1_doPipe 9 = .ok (.aload_n 0, 1) := by decide +kernel
theorem dX1_doPipe_10 : decode cX1_doPipe 10 = .ok (.getfield 33, 3) := by decide +kernel
theorem dX1_doPipe_13 : decode cX1_doPipe 13 = .ok (.arraylength, 1) := by decide +kernel
theorem dX1_doPipe_14 : decode cX1_doPipe 14 = .ok (.if_icmp .ge 17, 3) := by decide +kernel
theorem dX1_doPipe_17 : decode cX1_doPipe 17 = .ok (.aload_n 0, 1) := by decide +kernel
theorem dX1_doPipe_18 : decode cX1_doPipe 18 = .ok (.iload_n 2, 1) := by decide +kernel
theorem dX1_doPipe_19 : decode cX1_doPipe 19 = .ok (.invokevirtual 272, 3) := by decide +kernel
theorem dX1_doPipe_22 : decode cX1_doPipe 22 = .ok (.ifCond .eq 9, 3) := by decide +kernel
theorem dX1_doPipe_25 : decode cX1_doPipe 25 = .ok (.iinc 2 1, 3) := by decide +kernel
theorem dX1_doPipe_28 : decode cX1_doPipe 28 = .ok (.goto (-20), 3) := by decide +kernel
theorem dX1_doPipe_31 : decode cX1_doPipe 31 = .ok (.iload_n 2, 1) := by decide +kernel
theorem dX1_doPipe_32 : decode cX1_doPipe 32 = .ok (.aload_n 0, 1) := by decide +kernel
theorem dX1_doPipe_33 : decode cX1_doPipe 33 = .ok (.getfield 33, 3) := by decide +kernel
theorem dX1_doPipe_36 : decode cX1_doPipe 36 = .ok (.arraylength, 1) := by decide +kernel
theorem dX1_doPipe_37 : decode cX1_doPipe 37 = .ok (.if_icmp .ne 13, 3) := by decide +kernel
theorem dX1_doPipe_40 : decode cX1_doPipe 40 = .ok (.aload_n 0, 1) := by decide +kernel
theorem dX1_doPipe_41 : decode cX1_doPipe 41 = .ok (.getfield 53, 3) := by decide +kernel
theorem dX1_doPipe_44 : decode cX1_doPipe 44 = .ok (.bipush (-11), 2) := by decide +kernel
theorem dX1_doPipe_46 : decode cX1_doPipe 46 = .ok (.invokevirtual 364, 3) := by decide +kernel
theorem dX1_doPipe_49 : decode cX1_doPipe 49 = .ok (.athrow, 1) := by decide +kernel
theorem dX1_doPipe_50 : decode cX1_doPipe 50 = .ok (.aload_n 0, 1) := by decide +kernel
theorem dX1_doPipe_51 : decode cX1_doPipe 51 = .ok (.getfield 33, 3) := by decide +kernel
theorem dX1_doPipe_54 : decode cX1_doPipe 54 = .ok (.iload_n 2, 1) := by decide +kernel
theorem dX1_doPipe_55 : decode cX1_doPipe 55 = .ok (.aaload, 1) := by decide +kernel
theorem dX1_doPipe_56 : decode cX1_doPipe 56 = .ok (.iconst 0, 1) := by decide +kernel
theorem dX1_doPipe_57 : decode cX1_doPipe 57 = .ok (.putfield 202, 3) := by decide +kernel
theorem dX1_doPipe_60 : decode cX1_doPipe 60 = .ok (.aload_n 0, 1) := by decide +kernel
theorem dX1_doPipe_61 : decode cX1_doPipe 61 = .ok (.iload_n 1, 1) := by decide +kernel
theorem dX1_doPipe_62 : decode cX1_doPipe 62 = .ok (.invokevirtual 630, 3) := by decide +kernel
theorem dX1_doPipe_65 : decode cX1_doPipe 65 = .ok (.astore_n 3, 1) := by decide +kernel
theorem dX1_doPipe_66 : decode cX1_doPipe 66 = .ok (.aload_n 3, 1) := by decide +kernel
theorem dX1_doPipe_67 : decode cX1_doPipe 67 = .ok (.iload_n 2, 1) := by decide +kernel
theorem dX1_doPipe_68 : decode cX1_doPipe 68 = .ok (.putfield 240, 3) := by decide +kernel
theorem dX1_doPipe_71 : decode cX1_doPipe 71 = .ok (.aload_n 3, 1) := by decide +kernel
theorem dX1_doPipe_72 : decode cX1_doPipe 72 = .ok (.iconst 1, 1) := by decide +kernel
theorem dX1_doPipe_73 : decode cX1_doPipe 73 = .ok (.putfield 608, 3) := by decide +kernel
theorem dX1_doPipe_76 : decode cX1_doPipe 76 = .ok (.aload_n 0, 1) := by decide +kernel
theorem dX1_doPipe_77 : decode cX1_doPipe 77 = .ok (.getfield 371, 3) := by decide +kernel
theorem dX1_doPipe_80 : decode cX1_doPipe 80 = .ok (.invokevirtual 601, 3) := by decide +kernel
theorem dX1_doPipe_83 : decode cX1_doPipe 83 = .ok (.istore 4, 2) := by decide +kernel
theorem dX1_doPipe_85 : decode cX1_doPipe 85 = .ok (.aload_n 0, 1) := by decide +kernel
theorem dX1_doPipe_86 : decode cX1_doPipe 86 = .ok (.iload 4, 2) := by decide +kernel
theorem dX1_doPipe_88 : decode cX1_doPipe 88 = .ok (.invokevirtual 630, 3) := by decide +kernel
theorem dX1_doPipe_91 : decode cX1_doPipe 91 = .ok (.astore 5, 2) := by decide +kernel
theorem dX1_doPipe_93 : decode cX1_doPipe 93 = .ok (.aload 5, 2) := by decide +kernel
theorem dX1_doPipe_95 : decode cX1_doPipe 95 = .ok (.iload_n 2, 1) := by decide +kernel
theorem dX1_doPipe_96 : decode cX1_doPipe 96 = .ok (.putfield 240, 3) := by decide +kernel
theorem dX1_doPipe_99 : decode cX1_doPipe 99 = .ok (.aload 5, 2) := by decide +kernel
theorem dX1_doPipe_101 : decode cX1_doPipe 101 = .ok (.iconst 1, 1) := by decide +kernel
theorem dX1_doPipe_102 : decode cX1_doPipe 102 = .ok (.putfield 249, 3) := by decide +kernel
theorem dX1_doPipe_105 : decode cX1_doPipe 105 = .ok (.aload 5, 2) := by decide +kernel
theorem dX1_doPipe_107 : decode cX1_doPipe 107 = .ok (.iconst 1, 1) := by decide +kernel
theorem dX1_doPipe_108 : decode cX1_doPipe 108 = .ok (.putfield 611, 3) := by decide +kernel
theorem dX1_doPipe_111 : decode cX1_doPipe 111 = .ok (.iload_n 1, 1) := by decide +kernel
theorem dX1_doPipe_112 : decode cX1_doPipe 112 = .ok (.bipush 8, 2) := by decide +kernel
theorem dX1_doPipe_114 : decode cX1_doPipe 114 = .ok (.iload 4, 2) := by decide +kernel
theorem dX1_doPipe_116 : decode cX1_doPipe 116 = .ok (.imul, 1) := by decide +kernel
theorem dX1_doPipe_117 : decode cX1_doPipe 117 = .ok (.iadd, 1) := by decide +kernel
theorem dX1_doPipe_118 : decode cX1_doPipe 118 = .ok (.ireturn, 1) := by decide +kernel
set_option maxHeartbeats 4000000 in
set_option maxRecDepth 100000 in
theorem l_X1_doPipe {G : xG} {n a b : Nat} {Q : Outcome → xS → Prop} {x : kX} {I : xI} {R : xR} {v : kV} {th : List xTh} (hT : KT x v th) (hr : kRef R x.N) {d : Nat} (hx : X G mX1_doPipe n a b Q (kS I R x v) 31 [(1, .ref (x.ad 0 0)), (1, .int (nI d)), (1, .int (nI (kPf I R))), xo, xo, xo] []) (k : Nat) (hn : 4 ≤ n) :
    (k ≤ 8) → (∀ j, j < k → kHasPipe I R (nI j)) → X G mX1_doPipe n a b Q (kS I R x v) 8 [(1, .ref (x.ad 0 0)), (1, .int (nI d)), (1, .int (nI k)), xo, xo, xo] [] := by
  induction hm : 8 - k using Nat.strongRecOn generalizing k with
  | _ m_ ih =>
    intro h8 hv
    refine x_iload_n 9 dX1_doPipe_8 rfl rfl ?_
    refine x_aload_n 10 dX1_doPipe_9 rfl rfl ?_
    refine x_getz 13 dX1_doPipe_10 rfl fl_X1_33 (hT.ks.l0 (by omega)) (hT.ks.z0_7 (by omega)) ?_
    refine x_alen 14 dX1_doPipe_13 rfl ar_25 (hT.ks.l25 (by omega)) ?_
    refine x_vi (congrArg nI (hT.ks.n25 (by omega))) ?_
    refine x_icmp_ge 31 17 dX1_doPipe_14 (by decide) rfl (fun c14 => ?_) (fun c14 => ?_)
    · skip
      have c14 : 8 ≤ k := (nI_leI (a := 8) (b := k) (by omega) (by omega)).mp c14
      have e_ := kPf_e (A := I) (C := R) h8 hv (Or.inl (by omega))
      rw [e_] at hx; exact hx
    · skip
      have c14 : ¬ (8 ≤ k) := fun h => c14 ((nI_leI (a := 8) (b := k) (by omega) (by omega)).mpr h)
      refine x_aload_n 18 dX1_doPipe_17 rfl rfl ?_
      refine x_iload_n 19 dX1_doPipe_18 rfl rfl ?_
      refine x_callV (as := [.int (nI k)]) (rest := []) (i := 0) (n' := n - 1) 22 dX1_doPipe_19 rfl mv_X1_272 rfl rfl (hT.ks.l0 (by omega)) (xnh rfl) (by omega) (xst (Nat.le_of_ble_eq_true rfl)) (c_X1_hasPipe (I := kI I v.t) (R := kR R v.u) hT.ks (hr.k (u := v.u)) (by omega) ?_)
      change X _ _ _ _ _ _ _ _ _ _
      refine x_vi (w := b2i (kHasPipe I R (nI k))) rfl ?_
      refine x_if_eq 31 25 dX1_doPipe_22 (by decide) rfl (fun c22 => ?_) (fun c22 => ?_)
      · skip
        have c22 : ¬ (kHasPipe I R (nI k)) := b2i_0.mp c22
        have e_ := kPf_e (A := I) (C := R) h8 hv (Or.inr c22)
        rw [e_] at hx; exact hx
      · skip
        have c22 : kHasPipe I R (nI k) := b2i_n0.mp c22
        refine x_iinc 28 [(1, .ref (x.ad 0 0)), (1, .int (nI d)), (1, .int (nI (k + 1))), xo, xo, xo] dX1_doPipe_25 rfl (by decide) rfl (xi_1 k) rfl ?_
        refine x_goto 8 dX1_doPipe_28 (by decide) ?_
        exact ih _ (by rw [← hm]; omega) (k + 1) rfl (by omega) (lt_succ_of (P := fun j => kHasPipe I R (nI j)) hv c22)
set_option maxHeartbeats 4000000 in
set_option maxRecDepth 100000 in
theorem s60_pipe {G : xG} {n a b : Nat} {Q : Outcome → xS → Prop} {x : kX} {I : xI} {R : xR} {v : kV} {th : List xTh} {mm : Nat} (hT : KT x v th) (hK : KI (I, R, th) x.N mm) {d k : Nat} (hd8 : d < 8) (hk8 : k < 8) (hmm : mm + 5 < 16384) {me : Nat} (hme : R 0 0 19 = some me) (hme16 : me < 16) (hn : 12 ≤ n) (hq : kOs Q x (kDoP1 I R th me d k)) : X G mX1_doPipe n a b Q (kS I R x v) 60 [(1, .ref (x.ad 0 0)), (1, .int (nI d)), (1, .int (nI k)), xo, xo, xo] [] := by
  have hnb := hT.ks.nb
  unfold kDoP1 at hq
  obtain ⟨⟨hex_, hfe_⟩, hq⟩ := hq.as
  refine x_aload_n 61 dX1_doPipe_60 rfl rfl ?_
  refine x_iload_n 62 dX1_doPipe_61 rfl rfl ?_
  obtain ⟨f1, hf1⟩ : ∃ fo, fo = kFreeO I R := ⟨_, rfl⟩
  have hf13 := (kFreeO_lt hex_).1
  rw [← hf1] at hf13 hq
  rw [← hf1] at hfe_
  refine x_callV (as := [.int (nI d)]) (rest := []) (i := 0) (n' := n - 1) 65 dX1_doPipe_62 rfl mv_X1_630 rfl rfl (hT.ks.l0 (by omega)) (xnh rfl) (by omega) (xst (Nat.le_of_ble_eq_true rfl)) (c_X1_newOpening (I := kI I v.t) (R := kR R v.u) hT.ks ((hK.rf).k (u := v.u)) hme hme16 hex_ (by omega) (by omega) (newo_eq hf1 ?_))
  change X _ _ _ _ _ _ _ _ _ _
  refine k_nmA (v := v) (A1 := (kNewI I f1)) kI_kNewI fun I1 hI1 => ?_
  refine k_nmC (v := v) (C1 := (kNewR R me d f1)) kR_kNewR fun R1 hR1 => ?_
  refine x_astore_n 66 [(1, .ref (x.ad 0 0)), (1, .int (nI d)), (1, .int (nI k)), (1, .ref (x.ad 7 f1)), xo, xo] dX1_doPipe_65 rfl (by decide) rfl ?_
  refine x_aload_n 67 dX1_doPipe_66 rfl rfl ?_
  refine x_iload_n 68 dX1_doPipe_67 rfl rfl ?_
  refine x_puti 71 dX1_doPipe_68 rfl fl_X1_240 rfl rfl (hT.ks.l7 hf13) ?_
  refine k_nmA (v := v) (kI_xu (c := 7) rfl) fun I2 hI2 => ?_
  refine x_aload_n 72 dX1_doPipe_71 rfl rfl ?_
  refine x_iconst (v := 1) 73 dX1_doPipe_72 rfl rfl ?_
  refine x_puti 76 dX1_doPipe_73 rfl fl_X1_608 rfl rfl (hT.ks.l7 hf13) ?_
  refine k_nmA (v := v) (kI_xu (c := 7) rfl) fun I3 hI3 => ?_
  obtain ⟨e, he⟩ : ∃ e, e = iN (kFe (kNewR R me d f1) me) := ⟨_, rfl⟩
  rw [← he] at hfe_ hq
  have he8 := hfe_.1
  have he2 := hfe_.2
  refine x_aload_n 77 dX1_doPipe_76 rfl rfl ?_
  refine x_gets 80 dX1_doPipe_77 rfl fl_X1_371 (hT.ks.l0 (by omega)) (show R1 0 0 19 = some me by rw [hR1]; unfold kNewR; rw [xu_c (by decide), xu_c (by decide)]; exact hme) ?_
  refine x_callV (as := []) (rest := []) (i := me) (n' := n - 1) 83 dX1_doPipe_80 rfl mv_X1_601 rfl rfl (hT.ks.l9 (by omega)) (xnh rfl) (by omega) (xst (Nat.le_of_ble_eq_true rfl)) (c_X10_free hT.ks (by omega) (by omega) ?_)
  change X _ _ _ _ _ _ _ _ _ _
  refine x_vi (w := kFe R1 me) rfl ?_
  refine x_vi (w := nI e) (by rw [hR1]; exact he2) ?_
  refine x_istore 85 [(1, .ref (x.ad 0 0)), (1, .int (nI d)), (1, .int (nI k)), (1, .ref (x.ad 7 f1)), (1, .int (nI e)), xo] dX1_doPipe_83 rfl (by decide) rfl ?_
  have eA : I3 = kPi1 I f1 k := by rw [hI3, hI2, hI1]; rfl
  rw [← hR1, ← eA] at hq
  unfold kDoP2 at hq
  obtain ⟨hex2, hq⟩ := hq.as
  refine x_aload_n 86 dX1_doPipe_85 rfl rfl ?_
  refine x_iload 88 dX1_doPipe_86 rfl rfl ?_
  obtain ⟨f2, hf2⟩ : ∃ fo, fo = kFreeO I3 R1 := ⟨_, rfl⟩
  have hf23 := (kFreeO_lt hex2).1
  rw [← hf2] at hf23 hq
  refine x_callV (as := [.int (nI e)]) (rest := []) (i := 0) (n' := n - 1) 91 dX1_doPipe_88 rfl mv_X1_630 rfl rfl (hT.ks.l0 (by omega)) (xnh rfl) (by omega) (xst (Nat.le_of_ble_eq_true rfl)) (c_X1_newOpening (I := kI I3 v.t) (R := kR R1 v.u) hT.ks (((show kRef R1 x.N by rw [hR1]; exact hK.rf.newr hf13)).k (u := v.u)) (show R1 0 0 19 = some me by rw [hR1]; unfold kNewR; rw [xu_c (by decide), xu_c (by decide)]; exact hme) hme16 hex2 (by omega) (by omega) (newo_eq hf2 ?_))
  change X _ _ _ _ _ _ _ _ _ _
  refine k_nmA (v := v) (A1 := (kNewI I3 f2)) kI_kNewI fun I4 hI4 => ?_
  refine k_nmC (v := v) (C1 := (kNewR R1 me e f2)) kR_kNewR fun R2 hR2 => ?_
  refine x_astore 93 [(1, .ref (x.ad 0 0)), (1, .int (nI d)), (1, .int (nI k)), (1, .ref (x.ad 7 f1)), (1, .int (nI e)), (1, .ref (x.ad 7 f2))] dX1_doPipe_91 rfl (by decide) rfl ?_
  refine x_aload 95 dX1_doPipe_93 rfl rfl ?_
  refine x_iload_n 96 dX1_doPipe_95 rfl rfl ?_
  refine x_puti 99 dX1_doPipe_96 rfl fl_X1_240 rfl rfl (hT.ks.l7 hf23) ?_
  refine k_nmA (v := v) (kI_xu (c := 7) rfl) fun I5 hI5 => ?_
  refine x_aload 101 dX1_doPipe_99 rfl rfl ?_
  refine x_iconst (v := 1) 102 dX1_doPipe_101 rfl rfl ?_
  refine x_puti 105 dX1_doPipe_102 rfl fl_X1_249 rfl rfl (hT.ks.l7 hf23) ?_
  refine k_nmA (v := v) (kI_xu (c := 7) rfl) fun I6 hI6 => ?_
  refine x_aload 107 dX1_doPipe_105 rfl rfl ?_
  refine x_iconst (v := 1) 108 dX1_doPipe_107 rfl rfl ?_
  refine x_puti 111 dX1_doPipe_108 rfl fl_X1_611 rfl rfl (hT.ks.l7 hf23) ?_
  refine k_nmA (v := v) (kI_xu (c := 7) rfl) fun I7 hI7 => ?_
  refine x_iload_n 112 dX1_doPipe_111 rfl rfl ?_
  refine x_bipush (v := 8) 114 dX1_doPipe_112 rfl rfl ?_
  refine x_iload 116 dX1_doPipe_114 rfl rfl ?_
  refine x_imuln 8 e 117 dX1_doPipe_116 rfl rfl rfl ?_
  refine x_iaddn d (8 * e) 118 dX1_doPipe_117 rfl rfl rfl ?_
  refine x_ireturn dX1_doPipe_118 rfl ?_
  rw [hI7, hI6, hI5, hI4, hR2]
  exact hq.ret hT
theorem kNum.u8 {A : xI} {N i k : Nat} {v : Int32} (h : kNum A N) : kNum (xu A 8 i k v) N := ⟨fun j hj => by rw [xu_c (by decide)]; exact h.1 j hj, fun p hp => by rw [xu_c (by decide)]; exact h.2 p hp⟩
theorem kPf_le {A : xI} {C : xR} : kPf A C ≤ 8 := by
  unfold kPf
  cases h : fst0 (fun k => ¬ kHasPipe A C (nI k)) 0 8 with
  | none => exact Nat.le_refl _
  | some k => have := (fst0_spec 8 0 k h).2.1; show k ≤ 8; omega
set_option maxHeartbeats 4000000 in
set_option maxRecDepth 100000 in
theorem c_X1_doPipe {G : xG} {n : Nat} {Q : Outcome → xS → Prop} {x : kX} {I : xI} {R : xR} {v : kV} {th : List xTh} {mm : Nat} (hT : KT x v th) (hK : KI (I, R, th) x.N mm)  (hmm : mm + 100 < 16384) {me : Nat} (hme : R 0 0 19 = some me) (hme16 : me < 16) (hn : 14 ≤ n) (hq : kOs Q x (kDoPipe (I, R, th) me)) : xCall G mX1_doPipe n [.ref (x.ad 0 0)] (kS I R x v) Q := by
  refine x_met (L0 := [(1, .ref (x.ad 0 0)), xo, xo, xo, xo, xo]) (by decide +kernel) rfl ⟨Nat.le_of_ble_eq_true rfl, rfl⟩ ?_
  have hnb := hT.ks.nb
  unfold kDoPipe at hq
  refine x_aload_n 1 dX1_doPipe_0 rfl rfl ?_
  refine x_iconst (v := 2) 2 dX1_doPipe_1 rfl rfl ?_
  refine x_callV (as := [.int (nI 2)]) (rest := []) (i := 0) (n' := n - 1) 5 dX1_doPipe_2 rfl mv_X1_546 rfl rfl (hT.ks.l0 (by omega)) (xnh rfl) (by omega) (xst (Nat.le_of_ble_eq_true rfl)) (c_X1_freeDescriptor (I := kI I v.t) (R := kR R v.u) (m := 2) hT.ks ((kSx.rfl (s := (I, R, th))).2 0 0 19 rfl |>.trans hme) hme16 (by omega) (by omega) ?_ ?_)
  · skip
    intro hfd
    have hfd : ¬ 8 - cntN (fun k => ¬ (I, R, th).2.1 46 me k = none) 8 < 2 := hfd
    rw [if_neg hfd] at hq
    have hdf := kFdN_s (s := (I, R, th)) (by omega) hfd
    have hdf2 := hdf.2
    change X _ _ _ _ _ _ _ _ _ _
    refine x_vi (w := nI (kFdN (I, R, th) me)) hdf.1 ?_
    refine x_istore_n 6 [(1, .ref (x.ad 0 0)), (1, .int (nI (kFdN (I, R, th) me))), xo, xo, xo, xo] dX1_doPipe_5 rfl (by decide) rfl ?_
    refine x_iconst (v := 0) 7 dX1_doPipe_6 rfl rfl ?_
    refine x_istore_n 8 [(1, .ref (x.ad 0 0)), (1, .int (nI (kFdN (I, R, th) me))), (1, .int 0), xo, xo, xo] dX1_doPipe_7 rfl (by decide) rfl ?_
    refine l_X1_doPipe (R := R) hT (show kRef R x.N from hK.rf) ?_ 0 (by omega) (by omega) (fun j hj => absurd hj (by omega))
    have hpf := kPf_le (A := I) (C := R)
    refine x_iload_n 32 dX1_doPipe_31 rfl rfl ?_
    refine x_aload_n 33 dX1_doPipe_32 rfl rfl ?_
    refine x_getz 36 dX1_doPipe_33 rfl fl_X1_33 (hT.ks.l0 (by omega)) (hT.ks.z0_7 (by omega)) ?_
    refine x_alen 37 dX1_doPipe_36 rfl ar_25 (hT.ks.l25 (by omega)) ?_
    refine x_vi (congrArg nI (hT.ks.n25 (by omega))) ?_
    refine x_icmp_ne 50 40 dX1_doPipe_37 (by decide) rfl (fun c37 => ?_) (fun c37 => ?_)
    · skip
      have c37 : ¬ (kPf I R = 8) := fun h => c37 ((nI_eq (a := kPf I R) (b := 8) (by omega) (by omega)).mpr h)
      refine x_aload_n 51 dX1_doPipe_50 rfl rfl ?_
      refine x_getz 54 dX1_doPipe_51 rfl fl_X1_33 (hT.ks.l0 (by omega)) (hT.ks.z0_7 (by omega)) ?_
      refine x_iload_n 55 dX1_doPipe_54 rfl rfl ?_
      refine x_aldz 56 dX1_doPipe_55 rfl ar_25 rfl (hT.ks.l25 (by omega)) (xb (hT.ks.n25 (by omega)) (by omega) (by omega)) (hT.ks.z25 (by omega)) ?_
      refine x_iconst (v := 0) 57 dX1_doPipe_56 rfl rfl ?_
      refine x_puti 60 dX1_doPipe_57 rfl fl_X1_202 rfl rfl (hT.ks.l8 (by omega)) ?_
      refine k_nmA (v := v) (kI_xu (c := 8) rfl) fun I1 hI1 => ?_
      rw [if_neg (show ¬ kPf I R = 8 by omega)] at hq
      have hKp : KI (xu I 8 (kPf I R) 1 0, R, th) x.N mm := ⟨hK.wf.ul rfl (kLn0 _), hK.rf, hK.ok, hK.nm.u8, hK.ln⟩
      rw [hI1]
      exact s60_pipe hT hKp hdf2 (by omega) (by omega) hme hme16 (by omega) hq
    · skip
      have c37 : kPf I R = 8 := (nI_eq (a := kPf I R) (b := 8) (by omega) (by omega)).mp c37
      refine x_aload_n 41 dX1_doPipe_40 rfl rfl ?_
      refine x_getz 44 dX1_doPipe_41 rfl fl_X1_53 (hT.ks.l0 (by omega)) (hT.ks.z0_10 (by omega)) ?_
      refine x_bipush (v := -11) 46 dX1_doPipe_44 rfl rfl ?_
      refine x_callV (as := [.int (-11)]) (rest := []) (i := 0) (n' := n - 1) 49 dX1_doPipe_46 rfl mv_X1_364 rfl rfl (hT.ks.l3 (by omega)) (xnh rfl) (by omega) (xst (Nat.le_of_ble_eq_true rfl)) (c_X4_by hT.ks (by omega) ?_)
      change X _ _ _ _ _ _ _ _ _ _
      refine k_nmA (v := v) (A1 := (xu I 3 0 0 ((-11)))) (by (repeat (first | rw [kI_xu] | rw [kI_xur] | rw [kI_xfil])) <;> rfl) fun I1 hI1 => ?_
      refine x_athrow dX1_doPipe_49 (xnh rfl) ?_
      rw [if_pos (show kPf I R = 8 by omega)] at hq
      rw [hI1]
      exact hq.thr (by decide) hT
  · skip
    intro hfd
    have hfd : 8 - cntN (fun k => ¬ (I, R, th).2.1 46 me k = none) 8 < 2 := hfd
    rw [if_pos hfd] at hq
    rw [kI_xu (c := 3) rfl]
    exact hq.thr (by decide) hT
