set_option maxRecDepth 100000
set_option maxHeartbeats 4000000 in
set_option maxRecDepth 100000 in
theorem c_J3_minI {G : xG} {n : Nat} {Q : Outcome → xS → Prop} {I : xI} {J : xJ} {R Z : xR} {T : xT} {x y : Int32} (hn : 1 ≤ n) (hq : Q (.returned (some (.int (if x ≤ y then x else y)))) (I, J, R, Z, T)) : xCall G mJ3_min n [.int x, .int y] (I, J, R, Z, T) Q := by
  refine x_met (L0 := [(1, .int x), (1, .int y)]) (by decide +kernel) rfl ⟨Nat.le_of_ble_eq_true rfl, rfl⟩ ?_
  refine x_iload_n 1 dJ3_min_0 rfl rfl ?_
  refine x_iload_n 2 dJ3_min_1 rfl rfl ?_
  refine x_icmp_gt 9 5 dJ3_min_2 (by decide) rfl (fun c2 => ?_) (fun c2 => ?_)
  · skip
    refine x_iload_n 10 dJ3_min_9 rfl rfl ?_
    refine x_ireturn dJ3_min_10 rfl ?_
    refine xri ?_ hq
    rw [if_neg (Int32.not_le.mpr c2)]
  · skip
    refine x_iload_n 6 dJ3_min_5 rfl rfl ?_
    refine x_goto 10 dJ3_min_6 (by decide) ?_
    refine x_ireturn dJ3_min_10 rfl ?_
    refine xri ?_ hq
    rw [if_pos (Int32.not_lt.mp c2)]
set_option maxHeartbeats 4000000 in
set_option maxRecDepth 100000 in
theorem c_J3_maxI {G : xG} {n : Nat} {Q : Outcome → xS → Prop} {I : xI} {J : xJ} {R Z : xR} {T : xT} {x y : Int32} (hn : 1 ≤ n) (hq : Q (.returned (some (.int (if x ≤ y then y else x)))) (I, J, R, Z, T)) : xCall G mJ3_max n [.int x, .int y] (I, J, R, Z, T) Q := by
  refine x_met (L0 := [(1, .int x), (1, .int y)]) (by decide +kernel) rfl ⟨Nat.le_of_ble_eq_true rfl, rfl⟩ ?_
  refine x_iload_n 1 dJ3_max_0 rfl rfl ?_
  refine x_iload_n 2 dJ3_max_1 rfl rfl ?_
  refine x_icmp_lt 9 5 dJ3_max_2 (by decide) rfl (fun c2 => ?_) (fun c2 => ?_)
  · skip
    refine x_iload_n 10 dJ3_max_9 rfl rfl ?_
    refine x_ireturn dJ3_max_10 rfl ?_
    refine xri ?_ hq
    rw [if_pos (Int32.le_of_lt c2)]
  · skip
    refine x_iload_n 6 dJ3_max_5 rfl rfl ?_
    refine x_goto 10 dJ3_max_6 (by decide) ?_
    refine x_ireturn dJ3_max_10 rfl ?_
    refine xri ?_ hq
    split; exact Int32.le_antisymm (by assumption) (Int32.not_lt.mp c2); rfl
theorem nI_subI {p q : Nat} (hp : p ≤ 8192) (hq : q ≤ 8192) : (nI p - nI q).toInt = (p : Int) - q := by
  rw [Int32.toInt_sub, nI_toInt (by omega), nI_toInt (by omega)]
  exact Int.bmod_eq_of_le (by omega) (by omega)
/-- how much is read -/
theorem mxmn {m p q : Nat} (hm : m ≤ 256) (hp : p ≤ 8192) (hq : q ≤ 8192) : (if (0 : Int32) ≤ (if nI m ≤ nI p - nI q then nI m else nI p - nI q) then (if nI m ≤ nI p - nI q then nI m else nI p - nI q) else 0) = nI (min m (p - q)) := by
  have e := nI_subI hp hq
  have em : (nI m).toInt = (m : Int) := nI_toInt (by omega)
  have z : (0 : Int32).toInt = 0 := by decide
  by_cases h : nI m ≤ nI p - nI q
  · have h1 := Int32.le_iff_toInt_le.mp h
    rw [if_pos h, if_pos (Int32.le_iff_toInt_le.mpr (by omega))]
    congr 1; omega
  · have h1 : ¬ (nI m).toInt ≤ (nI p - nI q).toInt := fun g => h (Int32.le_iff_toInt_le.mpr g)
    rw [if_neg h]
    by_cases h2 : q ≤ p
    · have e2 : nI p - nI q = nI (p - q) := pk_sub h2
      rw [e2, if_pos (nI_pos' (by omega))]
      congr 1; omega
    · rw [if_neg (fun g => by have := Int32.le_iff_toInt_le.mp g; omega), show min m (p - q) = 0 by omega]; decide
def pTak (A : xI) (p s t : Nat) : xI := xu (xfil A 44 p 0 (s - t) (fun j => A 44 p (j + t))) 8 p 1 (nI (s - t))
theorem kI_pTak {A t : xI} {p s u : Nat} : pTak (kI A t) p s u = kI (pTak A p s u) t := by unfold pTak; rw [kI_xfil (c := 44) rfl, kI_xu (c := 8) rfl]; rfl
def kRdP (A : xI) (p s m : Nat) : xI := pTak (xur (xu A 0 0 14 (nI m)) 28 0 (va_cpy (xu A 0 0 14 (nI m) 44 p) (xu A 0 0 14 (nI m) 28 0) 0 0 m)) p s m
def kRdF (A : xI) (o f q m : Nat) : xI := xu (xur (xu A 0 0 14 (nI m)) 28 0 (va_cpy (xu A 0 0 14 (nI m) 36 f) (xu A 0 0 14 (nI m) 28 0) (min q (8192 - m)) 0 m)) 7 o 6 (nI (q + m))
noncomputable def kRd1 (s : kK) (p m : Nat) : kQ := cif (iN (s.1 8 p 1) = 0 ∧ 0 < m ∧ kHasSide s.1 s.2.1 (nI p) 1) (kRf s (-7))
  (kRt (kRdP s.1 p (iN (s.1 8 p 1)) (min m (iN (s.1 8 p 1))), s.2.1, s.2.2) (nI (min m (iN (s.1 8 p 1)))))
def kRd2 (s : kK) (o f m : Nat) : kQ := kRt (kRdF s.1 o f (iN (s.1 7 o 6)) (min m (iN (s.1 6 f 3) - iN (s.1 7 o 6))), s.2.1, s.2.2) (nI (min m (iN (s.1 6 f 3) - iN (s.1 7 o 6))))
noncomputable def kDoRead (N : Nat) (s : kK) (me d m : Nat) : kQ := match s.2.1 46 me d with
  | none => kRf s (-2)
  | some o => if s.1 7 o 3 = 0 then kRf s (-5) else cif (oPipe s.2.1 o) (kAs (kPk s o) s (kU (kAccess N s me 6 (s.1 7 o 1) 0 0 1) fun s' => kRd1 s' (iN (s.1 7 o 1)) m))
    (kU (kAccess N s me 5 (nI o) 0 0 1) fun s' => kU (kAccess N s' me 0 (nI (kFl s o)) 0 0 0) fun s' => kRd2 s' o (kFl s o) m)
theorem dX1_doRead_0 : decode cX1_doRead 0 = .ok (.aload_n 0, 1) := by decide +kernel
theorem dX1_doRead_1 : decode cX1_doRead 1 = .ok (.iload_n 1, 1) := by decide +kernel
theorem dX1_doRead_2 : decode cX1_doRead 2 = .ok (.invokevirtual 544, 3) := by decide +kernel
theorem dX1_doRead_5 : decode cX1_doRead 5 = .ok (.astore_n 3, 1) := by decide +kernel
theorem dX1_doRead_6 : decode cX1_doRead 6 = .ok (.aload_n 3, 1) := by decide +kernel
theorem dX1_doRead_7 : decode cX1_doRead 7 = .ok (.getfield 608, 3) := by decide +kernel
theorem dX1_doRead_10 : decode cX1_doRead 10 = .ok (.ifCond .ne 13, 3) := by decide +kernel
theorem dX1_doRead_13 : decode cX1_doRead 13 = .ok (.aload_n 0, 1) := by decide +kernel
theorem dX1_doRead_14 : decode cX1_doRead 14 = .ok (.getfield 53, 3) := by decide +kernel
theorem dX1_doRead_17 : decode cX1_doRead 17 = .ok (.bipush (-5), 2) := by decide +kernel
theorem dX1_doRead_19 : decode cX1_doRead 19 = .ok (.invokevirtual 364, 3) := by decide +kernel
theorem dX1_doRead_22 : decode cX1_doRead 22 = .ok (.athrow, 1) := by decide +kernel
theorem dX1_doRead_23 : decode cX1_doRead 23 = .ok (.aload_n 3, 1) := by decide +kernel
theorem dX1_doRead_24 : decode cX1_doRead 24 = .ok (.invokevirtual 237, 3) := by decide +kernel
theorem dX1_doRead_27 : decode cX1_doRead 27 = .ok (.ifCond .eq 103, 3) := by decide +kernel
theorem dX1_doRead_30 : decode cX1_doRead 30 = .ok (.aload_n 0, 1) := by decide +kernel
theorem dX1_doRead_31 : decode cX1_doRead 31 = .ok (.bipush 6, 2) := by decide +kernel
theorem dX1_doRead_33 : decode cX1_doRead 33 = .ok (.aload_n 3, 1) := by decide +kernel
theorem dX1_doRead_34 : decode cX1_doRead 34 = .ok (.getfield 240, 3) := by decide +kernel
theorem dX1_doRead_37 : decode cX1_doRead 37 = .ok (.invokevirtual 588, 3) := by decide +kernel
theorem dX1_doRead_40 : decode cX1_doRead 40 = .ok (.aload_n 0, 1) := by decide +kernel
theorem dX1_doRead_41 : decode cX1_doRead 41 = .ok (.getfield 33, 3) := by decide +kernel
theorem dX1_doRead_44 : decode cX1_doRead 44 = .ok (.aload_n 3, 1) := by decide +kernel
theorem dX1_doRead_45 : decode cX1_doRead 45 = .ok (.getfield 240, 3) := by decide +kernel
theorem dX1_doRead_48 : decode cX1_doRead 48 = .ok (.aaload, 1) := by decide +kernel
theorem dX1_doRead_49 : decode cX1_doRead 49 = .ok (.astore 4, 2) := by decide +kernel
theorem dX1_doRead_51 : decode cX1_doRead 51 = .ok (.aload 4, 2) := by decide +kernel
theorem dX1_doRead_53 : decode cX1_doRead 53 = .ok (.getfield 202, 3) := by decide +kernel
theorem dX1_doRead_56 : decode cX1_doRead 56 = .ok (.ifCond .ne 29, 3) := by decide +kernel
theorem dX1_doRead_59 : decode cX1_doRead 59 = .ok (.iload_n 2, 1) := by decide +kernel
theorem dX1_doRead_60 : decode cX1_doRead 60 = .ok (.ifCond .le 25, 3) := by decide +kernel
theorem dX1_doRead_63 : decode cX1_doRead 63 = .ok (.aload_n 0, 1) := by decide +kernel
theorem dX1_doRead_64 : decode cX1_doRead 64 = .ok (.aload_n 3, 1) := by decide +kernel
theorem dX1_doRead_65 : decode cX1_doRead 65 = .ok (.getfield 240, 3) := by decide +kernel
theorem dX1_doRead_68 : decode cX1_doRead 68 = .ok (.iconst 1, 1) := by decide +kernel
theorem dX1_doRead_69 : decode cX1_doRead 69 = .ok (.invokevirtual 633, 3) := by decide +kernel
theorem dX1_doRead_72 : decode cX1_doRead 72 = .ok (.ifCond .eq 13, 3) := by decide +kernel
theorem dX1_doRead_75 : decode cX1_doRead 75 = .ok (.aload_n 0, 1) := by decide +kernel
theorem dX1_doRead_76 : decode cX1_doRead 76 = .ok (.getfield 53, 3) := by decide +kernel
theorem dX1_doRead_79 : decode cX1_doRead 79 = .ok (.bipush (-7), 2) := by decide +kernel
theorem dX1_doRead_81 : decode cX1_doRead 81 = .ok (.invokevirtual 364, 3) := by decide +kernel
theorem dX1_doRead_84 : decode cX1_doRead 84 = .ok (.athrow, 1) := by decide +kernel
theorem dX1_doRead_85 : decode cX1_doRead 85 = .ok (.aload_n 0, 1) := by decide +kernel
theorem dX1_doRead_86 : decode cX1_doRead 86 = .ok (.iload_n 2, 1) := by decide +kernel
theorem dX1_doRead_87 : decode cX1_doRead 87 = .ok (.aload 4, 2) := by decide +kernel
theorem dX1_doRead_89 : decode cX1_doRead 89 = .ok (.getfield 202, 3) := by decide +kernel
theorem dX1_doRead_92 : decode cX1_doRead 92 = .ok (.invokestatic 636, 3) := by decide +kernel
theorem dX1_doRead_95 : decode cX1_doRead 95 = .ok (.putfield 639, 3) := by decide +kernel
theorem dX1_doRead_98 : decode cX1_doRead 98 = .ok (.aload 4, 2) := by decide +kernel
theorem dX1_doRead_100 : decode cX1_doRead 100 = .ok (.getfield 642, 3) := by decide +kernel
theorem dX1_doRead_103 : decode cX1_doRead 103 = .ok (.iconst 0, 1) := by decide +kernel
theorem dX1_doRead_104 : decode cX1_doRead 104 = .ok (.aload_n 0, 1) := by decide +kernel
theorem dX1_doRead_105 : decode cX1_doRead 105 = .ok (.getfield 61, 3) := by decide +kernel
theorem dX1_doRead_108 : decode cX1_doRead 108 = .ok (.iconst 0, 1) := by decide +kernel
theorem dX1_doRead_109 : decode cX1_doRead 109 = .ok (.aload_n 0, 1) := by decide +kernel
theorem dX1_doRead_110 : decode cX1_doRead 110 = .ok (.getfield 639, 3) := by decide +kernel
theorem dX1_doRead_113 : decode cX1_doRead 113 = .ok (.invokestatic 148, 3) := by decide +kernel
theorem dX1_doRead_116 : decode cX1_doRead 116 = .ok (.aload 4, 2) := by decide +kernel
theorem dX1_doRead_118 : decode cX1_doRead 118 = .ok (.aload_n 0, 1) := by decide +kernel
theorem dX1_doRead_119 : decode cX1_doRead 119 = .ok (.getfield 639, 3) := by decide +kernel
theorem dX1_doRead_122 : decode cX1_doRead 122 = .ok (.invokevirtual 643, 3) := by decide +kernel
theorem dX1_doRead_125 : decode cX1_doRead 125 = .ok (.aload_n 0, 1) := by decide +kernel
theorem dX1_doRead_126 : decode cX1_doRead 126 = .ok (.getfield 639, 3) := by decide +kernel
theorem dX1_doRead_129 : decode cX1_doRead 129 = .ok (.ireturn, 1) := by decide +kernel
theorem dX1_doRead_130 : decode cX1_doRead 130 = .ok (.aload_n 0, 1) := by decide +kernel
theorem dX1_doRead_131 : decode cX1_doRead 131 = .ok (.iconst 5, 1) := by decide +kernel
theorem dX1_doRead_132 : decode cX1_doRead 132 = .ok (.aload_n 0, 1) := by decide +kernel
theorem dX1_doRead_133 : decode cX1_doRead 133 = .ok (.aload_n 3, 1) := by decide +kernel
theorem dX1_doRead_134 : decode cX1_doRead 134 = .ok (.invokevirtual 646, 3) := by decide +kernel
theorem dX1_doRead_137 : decode cX1_doRead 137 = .ok (.invokevirtual 588, 3) := by decide +kernel
theorem dX1_doRead_140 : decode cX1_doRead 140 = .ok (.aload_n 0, 1) := by decide +kernel
theorem dX1_doRead_141 : decode cX1_doRead 141 = .ok (.iconst 0, 1) := by decide +kernel
theorem dX1_doRead_142 : decode cX1_doRead 142 = .ok (.aload_n 3, 1) := by decide +kernel
theorem dX1_doRead_143 : decode cX1_doRead 143 = .ok (.getfield 255, 3) := by decide +kernel
theorem dX1_doRead_146 : decode cX1_doRead 146 = .ok (.getfield 448, 3) := by decide +kernel
theorem dX1_doRead_149 : decode cX1_doRead 149 = .ok (.invokevirtual 650, 3) := by decide +kernel
theorem dX1_doRead_152 : decode cX1_doRead 152 = .ok (.aload_n 0, 1) := by decide +kernel
theorem dX1_doRead_153 : decode cX1_doRead 153 = .ok (.iconst 0, 1) := by decide +kernel
theorem dX1_doRead_154 : decode cX1_doRead 154 = .ok (.iload_n 2, 1) := by decide +kernel
theorem dX1_doRead_155 : decode cX1_doRead 155 = .ok (.aload_n 3, 1) := by decide +kernel
theorem dX1_doRead_156 : decode cX1_doRead 156 = .ok (.getfield 255, 3) := by decide +kernel
theorem dX1_doRead_159 : decode cX1_doRead 159 = .ok (.getfield 285, 3) := by decide +kernel
theorem dX1_doRead_162 : decode cX1_doRead 162 = .ok (.aload_n 3, 1) := by decide +kernel
theorem dX1_doRead_163 : decode cX1_doRead 163 = .ok (.getfield 310, 3) := by decide +kernel
theorem dX1_doRead_166 : decode cX1_doRead 166 = .ok (.isub, 1) := by decide +kernel
theorem dX1_doRead_167 : decode cX1_doRead 167 = .ok (.invokestatic 636, 3) := by decide +kernel
theorem dX1_doRead_170 : decode cX1_doRead 170 = .ok (.invokestatic 425, 3) := by decide +kernel
theorem dX1_doRead_173 : decode cX1_doRead 173 = .ok (.putfield 639, 3) := by decide +kernel
theorem dX1_doRead_176 : decode cX1_doRead 176 = .ok (.aload_n 3, 1) := by decide +kernel
theorem dX1_doRead_177 : decode cX1_doRead 177 = .ok (.getfield 255, 3) := by decide +kernel
theorem dX1_doRead_180 : decode cX1_doRead 180 = .ok (.getfield 279, 3) := by decide +kernel
theorem dX1_doRead_183 : decode cX1_doRead 183 = .ok (.aload_n 3, 1) := by decide +kernel
theorem dX1_doRead_184 : decode cX1_doRead 184 = .ok (.getfield 310, 3) := by decide +kernel
theorem dX1_doRead_187 : decode cX1_doRead 187 = .ok (.sipush 8192, 3) := by decide +kernel
theorem dX1_doRead_190 : decode cX1_doRead 190 = .ok (.aload_n 0, 1) := by decide +kernel
theorem dX1_doRead_191 : decode cX1_doRead 191 = .ok (.getfield 639, 3) := by decide +kernel
theorem dX1_doRead_194 : decode cX1_doRead 194 = .ok (.isub, 1) := by decide +kernel
theorem dX1_doRead_195 : decode cX1_doRead 195 = .ok (.invokestatic 636, 3) := by decide +kernel
theorem dX1_doRead_198 : decode cX1_doRead 198 = .ok (.aload_n 0, 1) := by decide +kernel
theorem dX1_doRead_199 : decode cX1_doRead 199 = .ok (.getfield 61, 3) := by decide +kernel
theorem dX1_doRead_202 : decode cX1_doRead 202 = .ok (.iconst 0, 1) := by decide +kernel
theorem dX1_doRead_203 : decode cX1_doRead 203 = .ok (.aload_n 0, 1) := by decide +kernel
theorem dX1_doRead_204 : decode cX1_doRead 204 = .ok (.getfield 639, 3) := by decide +kernel
theorem dX1_doRead_207 : decode cX1_doRead 207 = .ok (.invokestatic 148, 3) := by decide +kernel
theorem dX1_doRead_210 : decode cX1_doRead 210 = .ok (.aload_n 3, 1) := by decide +kernel
theorem dX1_doRead_211 : decode cX1_doRead 211 = .ok (.dup, 1) := by decide +kernel
theorem dX1_doRead_212 : decode cX1_doRead 212 = .ok (.getfield 310, 3) := by decide +kernel
theorem dX1_doRead_215 : decode cX1_doRead 215 = .ok (.aload_n 0, 1) := by decide +kernel
theorem dX1_doRead_216 : decode cX1_doRead 216 = .ok (.getfield 639, 3) := by decide +kernel
theorem dX1_doRead_219 : decode cX1_doRead 219 = .ok (.iadd, 1) := by decide +kernel
theorem dX1_doRead_220 : decode cX1_doRead 220 = .ok (.putfield 310, 3) := by decide +kernel
theorem dX1_doRead_223 : decode cX1_doRead 223 = .ok (.aload_n 0, 1) := by decide +kernel
theorem dX1_doRead_224 : decode cX1_doRead 224 = .ok (.getfield 639, 3) := by decide +kernel
theorem dX1_doRead_227 : decode cX1_doRead 227 = .ok (.ireturn, 1) := by decide +kernel
set_option maxHeartbeats 4000000 in
set_option maxRecDepth 100000 in
theorem c_X1_doRead {G : xG} {n : Nat} {Q : Outcome → xS → Prop} {x : kX} {I : xI} {R : xR} {v : kV} {th : List xTh} {mm : Nat} (hT : KT x v th) (hK : KI (I, R, th) x.N mm) {d m : Nat} (hd8 : d < 8) (hm2 : m ≤ 200) (hmm : mm + 100 < 16384) {me : Nat} (hme : R 0 0 19 = some me) (hme16 : me < 16) (hn : 14 ≤ n) (hq : kOs Q x (kDoRead x.N (I, R, th) me d m)) : xCall G mX1_doRead n [.ref (x.ad 0 0), .int (nI d), .int (nI m)] (kS I R x v) Q := by
  refine x_met (L0 := [(1, .ref (x.ad 0 0)), (1, .int (nI d)), (1, .int (nI m)), xo, xo]) (by decide +kernel) rfl ⟨Nat.le_of_ble_eq_true rfl, rfl⟩ ?_
  have hnb := hT.ks.nb
  unfold kDoRead at hq
  refine x_aload_n 1 dX1_doRead_0 rfl rfl ?_
  refine x_iload_n 2 dX1_doRead_1 rfl rfl ?_
  refine x_callV (as := [.int (nI d)]) (rest := []) (i := 0) (n' := n - 1) 5 dX1_doRead_2 rfl mv_X1_544 rfl rfl (hT.ks.l0 (by omega)) (xnh rfl) (by omega) (xst (Nat.le_of_ble_eq_true rfl)) (c_X1_has (I := kI I v.t) (R := kR R v.u) hT.ks ((kSx.rfl (s := (I, R, th))).2 0 0 19 rfl |>.trans hme) hme16 (by omega) (by omega) ?_ ?_)
  · skip
    intro o_ ho_
    have ho_ : R 46 me d = some o_ := ho_
    try dsimp only at hq
    rw [ho_] at hq
    try dsimp only at hq
    have ho3 := hK.rf.row ho_
    change X _ _ _ _ _ _ _ _ _ _
    refine x_astore_n 6 [(1, .ref (x.ad 0 0)), (1, .int (nI d)), (1, .int (nI m)), (1, .ref (x.ad 7 o_)), xo] dX1_doRead_5 rfl (by decide) rfl ?_
    refine x_aload_n 7 dX1_doRead_6 rfl rfl ?_
    refine x_geti 10 dX1_doRead_7 rfl fl_X1_608 (hT.ks.l7 (by omega)) ?_
    refine x_vi (w := I 7 o_ 3) rfl ?_
    refine x_if_ne 23 13 dX1_doRead_10 (by decide) rfl (fun c10 => ?_) (fun c10 => ?_)
    · skip
      rw [if_neg c10] at hq
      refine x_aload_n 24 dX1_doRead_23 rfl rfl ?_
      refine x_callV (as := []) (rest := []) (i := o_) (n' := n - 1) 27 dX1_doRead_24 rfl mv_X1_237 rfl rfl (hT.ks.l7 (by omega)) (xnh rfl) (by omega) (xst (Nat.le_of_ble_eq_true rfl)) (c_X8_isPipe hT.ks (by omega) (by omega) ?_)
      change X _ _ _ _ _ _ _ _ _ _
      refine x_vi (w := b2i (oPipe R o_)) rfl ?_
      refine x_if_eq 130 30 dX1_doRead_27 (by decide) rfl (fun c27 => ?_) (fun c27 => ?_)
      · skip
        have c27 : ¬ (oPipe R o_) := b2i_0.mp c27
        rw [cif_f (show ¬ oPipe R o_ from c27)] at hq
        have hfl : R 7 o_ 0 = some (kFl (I, R, th) o_) := kFl_s (s := (I, R, th)) c27
        obtain ⟨f_, hf_⟩ : ∃ f_, f_ = kFl (I, R, th) o_ := ⟨_, rfl⟩
        rw [← hf_] at hfl
        rw [← hf_] at hq
        have hfN := hK.rf.of hfl
        refine x_aload_n 131 dX1_doRead_130 rfl rfl ?_
        refine x_iconst (v := 5) 132 dX1_doRead_131 rfl rfl ?_
        refine x_aload_n 133 dX1_doRead_132 rfl rfl ?_
        refine x_aload_n 134 dX1_doRead_133 rfl rfl ?_
        refine x_callV (as := [.ref (x.ad 7 o_)]) (rest := [.int 5, .ref (x.ad 0 0)]) (i := 0) (n' := n - 1) 137 dX1_doRead_134 rfl mv_X1_646 rfl rfl (hT.ks.l0 (by omega)) (xnh rfl) (by omega) (xst (Nat.le_of_ble_eq_true rfl)) (c_X1_numberOf hT.ks (by omega) (by omega) ?_)
        change X _ _ _ _ _ _ _ _ _ _
        obtain ⟨r_1, hd1⟩ : ∃ r : kO, r = kAccess x.N (I, R, th) me 5 (nI o_) 0 0 1 := ⟨_, rfl⟩
        rw [← hd1] at hq
        have hK_1 : KI r_1.2 x.N (mm + 1) := by rw [hd1]; exact hK.access (hoaN (g := 5) (by omega) (kOf5 (by omega)))
        have hS_1 : kSx (I, R, th) r_1.2 := (kSx.rfl (s := (I, R, th))).trans (by rw [hd1]; exact sx_access)
        refine x_callV (as := [.int 5, .int (nI o_)]) (rest := []) (i := 0) (n' := n - 1) 140 dX1_doRead_137 rfl mv_X1_588 rfl rfl (hT.ks.l0 (by omega)) (xnh rfl) (by omega) (xst (Nat.le_of_ble_eq_true rfl)) (c_X1_writes (g := 5) (oa := nI o_) hT hK (hoaN (g := 5) (by omega) (kOf5 (by omega))) (by omega) ((kSx.rfl (s := (I, R, th))).2 0 0 19 rfl |>.trans hme) hme16 (by omega) (kOutN hd1 ⟨?_, ?_⟩))
        · skip
          intro hz1 w1 hU1
          change X _ _ _ _ _ _ _ _ _ _
          rw [kU_ok hz1] at hq
          refine x_aload_n 141 dX1_doRead_140 rfl rfl ?_
          refine x_iconst (v := 0) 142 dX1_doRead_141 rfl rfl ?_
          refine x_aload_n 143 dX1_doRead_142 rfl rfl ?_
          refine x_gets 146 dX1_doRead_143 rfl fl_X1_255 (hU1.ks.l7 (by omega)) ((hS_1).2 7 o_ 0 rfl |>.trans hfl) ?_
          refine x_geti 149 dX1_doRead_146 rfl fl_X1_448 (hU1.ks.l6 (by omega)) ?_
          refine x_vi (w := r_1.2.1 6 f_ 0) rfl ?_
          refine x_vi (w := nI f_) (hK_1.nm.1 f_ (by omega)) ?_
          obtain ⟨r_2, hd2⟩ : ∃ r : kO, r = kAccess x.N r_1.2 me 0 (nI f_) 0 0 0 := ⟨_, rfl⟩
          rw [← hd2] at hq
          have hK_2 : KI r_2.2 x.N ((mm + 1) + 1) := by rw [hd2]; exact hK_1.access (hoaN (g := 0) (by omega) (kOf0 (by omega)))
          have hS_2 : kSx (I, R, th) r_2.2 := (hS_1).trans (by rw [hd2]; exact sx_access)
          refine x_callV (as := [.int 0, .int (nI f_)]) (rest := []) (i := 0) (n' := n - 1) 152 dX1_doRead_149 rfl mv_X1_650 rfl rfl (hU1.ks.l0 (by omega)) (xnh rfl) (by omega) (xst (Nat.le_of_ble_eq_true rfl)) (c_X1_reads (g := 0) (oa := nI f_) hU1 hK_1 (hoaN (g := 0) (by omega) (kOf0 (by omega))) (by omega) ((hS_1).2 0 0 19 rfl |>.trans hme) hme16 (by omega) (kOutN hd2 ⟨?_, ?_⟩))
          · skip
            intro hz2 w2 hU2
            change X _ _ _ _ _ _ _ _ _ _
            rw [kU_ok hz2] at hq
            have hlnk := hK_2.wf.len f_
            have hplk := hK_2.wf.plc o_
            obtain ⟨ln, hln⟩ : ∃ ln, ln = iN (r_2.2.1 6 f_ 3) := ⟨_, rfl⟩
            obtain ⟨pl, hpl⟩ : ∃ pl, pl = iN (r_2.2.1 7 o_ 6) := ⟨_, rfl⟩
            have hln1 : r_2.2.1 6 f_ 3 = nI ln ∧ ln ≤ 8192 := by rw [hln]; exact hlnk
            have hpl1 : r_2.2.1 7 o_ 6 = nI pl ∧ pl ≤ 8192 := by rw [hpl]; exact hplk
            have hln2 := hln1.2
            have hpl2 := hpl1.2
            refine x_aload_n 153 dX1_doRead_152 rfl rfl ?_
            refine x_iconst (v := 0) 154 dX1_doRead_153 rfl rfl ?_
            refine x_iload_n 155 dX1_doRead_154 rfl rfl ?_
            refine x_aload_n 156 dX1_doRead_155 rfl rfl ?_
            refine x_gets 159 dX1_doRead_156 rfl fl_X1_255 (hU2.ks.l7 (by omega)) ((hS_2).2 7 o_ 0 rfl |>.trans hfl) ?_
            refine x_geti 162 dX1_doRead_159 rfl fl_X1_285 (hU2.ks.l6 (by omega)) ?_
            refine x_vi (w := r_2.2.1 6 f_ 3) rfl ?_
            refine x_vi (w := nI ln) hln1.1 ?_
            refine x_aload_n 163 dX1_doRead_162 rfl rfl ?_
            refine x_geti 166 dX1_doRead_163 rfl fl_X1_310 (hU2.ks.l7 (by omega)) ?_
            refine x_vi (w := r_2.2.1 7 o_ 6) rfl ?_
            refine x_vi (w := nI pl) hpl1.1 ?_
            refine x_isub 167 dX1_doRead_166 rfl ?_
            refine x_callS (as := [.int (nI m), .int ((nI ln) - (nI pl))]) (rest := [.int 0, .ref (x.ad 0 0)]) (n' := n - 1) 170 dX1_doRead_167 rfl ms_X1_636 rfl rfl (xnh rfl) (by omega) (xst (Nat.le_of_ble_eq_true rfl)) (c_J3_minI (by omega) ?_)
            change X _ _ _ _ _ _ _ _ _ _
            refine x_vi (w := (if nI m ≤ (nI ln) - (nI pl) then nI m else (nI ln) - (nI pl))) rfl ?_
            refine x_callS (as := [.int 0, .int ((if nI m ≤ (nI ln) - (nI pl) then nI m else (nI ln) - (nI pl)))]) (rest := [.ref (x.ad 0 0)]) (n' := n - 1) 173 dX1_doRead_170 rfl ms_X1_425 rfl rfl (xnh rfl) (by omega) (xst (Nat.le_of_ble_eq_true rfl)) (c_J3_maxI (by omega) ?_)
            change X _ _ _ _ _ _ _ _ _ _
            refine x_vi (w := (if (0 : Int32) ≤ (if nI m ≤ (nI ln) - (nI pl) then nI m else (nI ln) - (nI pl)) then (if nI m ≤ (nI ln) - (nI pl) then nI m else (nI ln) - (nI pl)) else 0)) rfl ?_
            refine x_vi (w := nI (min m (ln - pl))) (mxmn (by omega) (by omega) (by omega)) ?_
            refine x_puti 176 dX1_doRead_173 rfl fl_X1_639 rfl rfl (hU2.ks.l0 (by omega)) ?_
            refine k_nmA (v := w2) (kI_xu (c := 0) rfl) fun I1 hI1 => ?_
            refine x_aload_n 177 dX1_doRead_176 rfl rfl ?_
            refine x_gets 180 dX1_doRead_177 rfl fl_X1_255 (hU2.ks.l7 (by omega)) ((hS_2).2 7 o_ 0 rfl |>.trans hfl) ?_
            refine x_getz 183 dX1_doRead_180 rfl fl_X1_279 (hU2.ks.l6 (by omega)) (hU2.ks.z6_5 (by omega)) ?_
            refine x_aload_n 184 dX1_doRead_183 rfl rfl ?_
            refine x_geti 187 dX1_doRead_184 rfl fl_X1_310 (hU2.ks.l7 (by omega)) ?_
            refine x_vi (w := I1 7 o_ 6) rfl ?_
            refine x_vi (w := nI pl) (by rw [hI1, xu_c (by decide)]; exact hpl1.1) ?_
            refine x_sipush (v := 8192) 190 dX1_doRead_187 rfl rfl ?_
            refine x_aload_n 191 dX1_doRead_190 rfl rfl ?_
            refine x_geti 194 dX1_doRead_191 rfl fl_X1_639 (hU2.ks.l0 (by omega)) ?_
            refine x_vi (w := I1 0 0 14) rfl ?_
            refine x_vi (w := nI ((min m (ln - pl)))) (by rw [hI1, xu_eq]) ?_
            refine x_isubn 8192 ((min m (ln - pl))) 195 dX1_doRead_194 rfl rfl rfl (by omega) ?_
            refine x_callS (as := [.int (nI pl), .int (nI (8192 - ((min m (ln - pl)))))]) (rest := [.ref (x.ad 36 f_)]) (n' := n - 1) 198 dX1_doRead_195 rfl ms_X1_636 rfl rfl (xnh rfl) (by omega) (xst (Nat.le_of_ble_eq_true rfl)) (c_J3_min (by omega) (by omega) (by omega) ?_)
            change X _ _ _ _ _ _ _ _ _ _
            refine x_aload_n 199 dX1_doRead_198 rfl rfl ?_
            refine x_getz 202 dX1_doRead_199 rfl fl_X1_61 (hU2.ks.l0 (by omega)) (hU2.ks.z0_13 (by omega)) ?_
            refine x_iconst (v := 0) 203 dX1_doRead_202 rfl rfl ?_
            refine x_aload_n 204 dX1_doRead_203 rfl rfl ?_
            refine x_geti 207 dX1_doRead_204 rfl fl_X1_639 (hU2.ks.l0 (by omega)) ?_
            refine x_vi (w := I1 0 0 14) rfl ?_
            refine x_vi (w := nI ((min m (ln - pl)))) (by rw [hI1, xu_eq]) ?_
            refine x_copyi (sp := (min pl (8192 - ((min m (ln - pl)))))) (dp := 0) (m := ((min m (ln - pl)))) 210 dX1_doRead_207 rfl cp_X1_148 ar_36 ar_28 (Or.inr ⟨rfl, by decide, by decide⟩) ⟨by decide, fun h => by cases h⟩ (hU2.ks.l36 (by omega)) (hU2.ks.l28 (by omega)) (by decide) (by omega) (xst (Nat.le_of_ble_eq_true rfl)) ⟨by omega, by omega, by omega⟩ (by rw [(hU2.ks.n36 (by omega))]; omega) (by rw [(hU2.ks.n28 (by omega))]; omega) ?_
            refine k_nmA (v := w2) (A1 := xur I1 28 0 (va_cpy (I1 36 f_) (I1 28 0) (min pl (8192 - ((min m (ln - pl))))) 0 ((min m (ln - pl))))) (kI_xur (c := 28) rfl) fun I2 hI2 => ?_
            refine x_aload_n 211 dX1_doRead_210 rfl rfl ?_
            refine x_dup 212 dX1_doRead_211 rfl rfl ?_
            refine x_geti 215 dX1_doRead_212 rfl fl_X1_310 (hU2.ks.l7 (by omega)) ?_
            refine x_vi (w := I2 7 o_ 6) rfl ?_
            refine x_vi (w := nI pl) (by rw [hI2, xur_c (by decide), hI1, xu_c (by decide)]; exact hpl1.1) ?_
            refine x_aload_n 216 dX1_doRead_215 rfl rfl ?_
            refine x_geti 219 dX1_doRead_216 rfl fl_X1_639 (hU2.ks.l0 (by omega)) ?_
            refine x_vi (w := I2 0 0 14) rfl ?_
            refine x_vi (w := nI ((min m (ln - pl)))) (by rw [hI2, xur_c (by decide), hI1, xu_eq]) ?_
            refine x_iaddn pl ((min m (ln - pl))) 220 dX1_doRead_219 rfl rfl rfl ?_
            refine x_puti 223 dX1_doRead_220 rfl fl_X1_310 rfl rfl (hU2.ks.l7 (by omega)) ?_
            refine k_nmA (v := w2) (kI_xu (c := 7) rfl) fun I3 hI3 => ?_
            refine x_aload_n 224 dX1_doRead_223 rfl rfl ?_
            refine x_geti 227 dX1_doRead_224 rfl fl_X1_639 (hU2.ks.l0 (by omega)) ?_
            refine x_vi (w := I3 0 0 14) rfl ?_
            refine x_vi (w := nI ((min m (ln - pl)))) (by rw [hI3, xu_c (by decide), hI2, xur_c (by decide), hI1, xu_eq]) ?_
            refine x_ireturn dX1_doRead_227 rfl ?_
            unfold kRd2 at hq; rw [← hln, ← hpl] at hq
            rw [hI3, hI2, hI1]
            exact hq.ret hU2
          · skip
            intro hz2 w2 hU2
            rw [kU_no hz2] at hq
            exact hq.no hz2 hU2
        · skip
          intro hz1 w1 hU1
          rw [kU_no hz1] at hq
          exact hq.no hz1 hU1
      · skip
        have c27 : oPipe R o_ := b2i_n0.mp c27
        rw [cif_t (show oPipe R o_ from c27)] at hq
        obtain ⟨hpk_, hq⟩ := hq.as
        have hpk_ : iN (I 7 o_ 1) < 8 ∧ I 7 o_ 1 = nI (iN (I 7 o_ 1)) := hpk_
        refine x_aload_n 31 dX1_doRead_30 rfl rfl ?_
        refine x_bipush (v := 6) 33 dX1_doRead_31 rfl rfl ?_
        refine x_aload_n 34 dX1_doRead_33 rfl rfl ?_
        refine x_geti 37 dX1_doRead_34 rfl fl_X1_240 (hT.ks.l7 (by omega)) ?_
        refine x_vi (w := I 7 o_ 1) rfl ?_
        obtain ⟨r_1, hd1⟩ : ∃ r : kO, r = kAccess x.N (I, R, th) me 6 (I 7 o_ 1) 0 0 1 := ⟨_, rfl⟩
        rw [← hd1] at hq
        have hK_1 : KI r_1.2 x.N (mm + 1) := by rw [hd1]; exact hK.access ⟨hpk_.2, kOf6 hpk_.1⟩
        have hS_1 : kSx (I, R, th) r_1.2 := (kSx.rfl (s := (I, R, th))).trans (by rw [hd1]; exact sx_access)
        refine x_callV (as := [.int 6, .int (I 7 o_ 1)]) (rest := []) (i := 0) (n' := n - 1) 40 dX1_doRead_37 rfl mv_X1_588 rfl rfl (hT.ks.l0 (by omega)) (xnh rfl) (by omega) (xst (Nat.le_of_ble_eq_true rfl)) (c_X1_writes (g := 6) (oa := I 7 o_ 1) hT hK ⟨hpk_.2, kOf6 hpk_.1⟩ (by omega) ((kSx.rfl (s := (I, R, th))).2 0 0 19 rfl |>.trans hme) hme16 (by omega) (kOutN hd1 ⟨?_, ?_⟩))
        · skip
          intro hz1 w1 hU1
          change X _ _ _ _ _ _ _ _ _ _
          rw [kU_ok hz1] at hq
          obtain ⟨p_, hp_⟩ : ∃ p_, p_ = iN (I 7 o_ 1) := ⟨_, rfl⟩
          have hp8 : p_ < 8 := by rw [hp_]; exact hpk_.1
          rw [← hp_] at hq
          have hpe : r_1.2.1 7 o_ 1 = nI p_ := ((hS_1).1 7 o_ 1 rfl).trans (by rw [hp_]; exact hpk_.2)
          have hsz := (hK_1.wf.psz p_).1
          have hsz2 := (hK_1.wf.psz p_).2
          obtain ⟨sz, hszd⟩ : ∃ sz, sz = iN (r_1.2.1 8 p_ 1) := ⟨_, rfl⟩
          rw [← hszd] at hsz hsz2
          refine x_aload_n 41 dX1_doRead_40 rfl rfl ?_
          refine x_getz 44 dX1_doRead_41 rfl fl_X1_33 (hU1.ks.l0 (by omega)) (hU1.ks.z0_7 (by omega)) ?_
          refine x_aload_n 45 dX1_doRead_44 rfl rfl ?_
          refine x_geti 48 dX1_doRead_45 rfl fl_X1_240 (hU1.ks.l7 (by omega)) ?_
          refine x_vi (w := r_1.2.1 7 o_ 1) rfl ?_
          refine x_vi (w := nI p_) hpe ?_
          refine x_aldz 49 dX1_doRead_48 rfl ar_25 rfl (hU1.ks.l25 (by omega)) (xb (hU1.ks.n25 (by omega)) (by omega) (by omega)) (hU1.ks.z25 (by omega)) ?_
          refine x_astore 51 [(1, .ref (x.ad 0 0)), (1, .int (nI d)), (1, .int (nI m)), (1, .ref (x.ad 7 o_)), (1, .ref (x.ad 8 p_))] dX1_doRead_49 rfl (by decide) rfl ?_
          refine x_aload 53 dX1_doRead_51 rfl rfl ?_
          refine x_geti 56 dX1_doRead_53 rfl fl_X1_202 (hU1.ks.l8 (by omega)) ?_
          refine x_vi (w := r_1.2.1 8 p_ 1) rfl ?_
          refine x_vi (w := nI sz) hsz ?_
          refine x_if_ne 85 59 dX1_doRead_56 (by decide) rfl (fun c56 => ?_) (fun c56 => ?_)
          · skip
            rw [nI_inj0 (by omega)] at c56
            refine x_aload_n 86 dX1_doRead_85 rfl rfl ?_
            refine x_iload_n 87 dX1_doRead_86 rfl rfl ?_
            refine x_aload 89 dX1_doRead_87 rfl rfl ?_
            refine x_geti 92 dX1_doRead_89 rfl fl_X1_202 (hU1.ks.l8 (by omega)) ?_
            refine x_vi (w := r_1.2.1 8 p_ 1) rfl ?_
            refine x_vi (w := nI sz) hsz ?_
            refine x_callS (as := [.int (nI m), .int (nI sz)]) (rest := [.ref (x.ad 0 0)]) (n' := n - 1) 95 dX1_doRead_92 rfl ms_X1_636 rfl rfl (xnh rfl) (by omega) (xst (Nat.le_of_ble_eq_true rfl)) (c_J3_min (by omega) (by omega) (by omega) ?_)
            change X _ _ _ _ _ _ _ _ _ _
            refine x_puti 98 dX1_doRead_95 rfl fl_X1_639 rfl rfl (hU1.ks.l0 (by omega)) ?_
            refine k_nmA (v := w1) (kI_xu (c := 0) rfl) fun I1 hI1 => ?_
            refine x_aload 100 dX1_doRead_98 rfl rfl ?_
            refine x_getz 103 dX1_doRead_100 rfl fl_X1_642 (hU1.ks.l8 (by omega)) (hU1.ks.z8_0 (by omega)) ?_
            refine x_iconst (v := 0) 104 dX1_doRead_103 rfl rfl ?_
            refine x_aload_n 105 dX1_doRead_104 rfl rfl ?_
            refine x_getz 108 dX1_doRead_105 rfl fl_X1_61 (hU1.ks.l0 (by omega)) (hU1.ks.z0_13 (by omega)) ?_
            refine x_iconst (v := 0) 109 dX1_doRead_108 rfl rfl ?_
            refine x_aload_n 110 dX1_doRead_109 rfl rfl ?_
            refine x_geti 113 dX1_doRead_110 rfl fl_X1_639 (hU1.ks.l0 (by omega)) ?_
            refine x_vi (w := I1 0 0 14) rfl ?_
            refine x_vi (w := nI ((min m sz))) (by rw [hI1, xu_eq]) ?_
            refine x_copyi (sp := 0) (dp := 0) (m := ((min m sz))) 116 dX1_doRead_113 rfl cp_X1_148 ar_44 ar_28 (Or.inr ⟨rfl, by decide, by decide⟩) ⟨by decide, fun h => by cases h⟩ (hU1.ks.l44 (by omega)) (hU1.ks.l28 (by omega)) (by decide) (by omega) (xst (Nat.le_of_ble_eq_true rfl)) ⟨by omega, by omega, by omega⟩ (by rw [(hU1.ks.n44 (by omega))]; omega) (by rw [(hU1.ks.n28 (by omega))]; omega) ?_
            refine k_nmA (v := w1) (A1 := xur I1 28 0 (va_cpy (I1 44 p_) (I1 28 0) 0 0 ((min m sz)))) (kI_xur (c := 28) rfl) fun I2 hI2 => ?_
            refine x_aload 118 dX1_doRead_116 rfl rfl ?_
            refine x_aload_n 119 dX1_doRead_118 rfl rfl ?_
            refine x_geti 122 dX1_doRead_119 rfl fl_X1_639 (hU1.ks.l0 (by omega)) ?_
            refine x_vi (w := I2 0 0 14) rfl ?_
            refine x_vi (w := nI ((min m sz))) (by rw [hI2, xur_c (by decide), hI1, xu_eq]) ?_
            refine x_callV (as := [.int (nI ((min m sz)))]) (rest := []) (i := p_) (n' := n - 1) 125 dX1_doRead_122 rfl mv_X1_643 rfl rfl (hU1.ks.l8 (by omega)) (xnh rfl) (by omega) (xst (Nat.le_of_ble_eq_true rfl)) (c_X9_take (I := kI I2 w1.t) (s := sz) hU1.ks (by omega) (by omega) (by omega) (by rw [show kI I2 w1.t 8 p_ 1 = I2 8 p_ 1 from rfl, hI2, xur_c (by decide), hI1, xu_c (by decide)]; exact hsz) (by omega) ?_)
            change X _ _ _ _ _ _ _ _ _ _
            refine k_nmA (v := w1) (A1 := (pTak I2 p_ sz ((min m sz)))) kI_pTak fun I3 hI3 => ?_
            refine x_aload_n 126 dX1_doRead_125 rfl rfl ?_
            refine x_geti 129 dX1_doRead_126 rfl fl_X1_639 (hU1.ks.l0 (by omega)) ?_
            refine x_vi (w := I3 0 0 14) rfl ?_
            refine x_vi (w := nI ((min m sz))) (by rw [hI3]; unfold pTak; rw [xu_c (by decide), xfil_c (by decide), hI2, xur_c (by decide), hI1, xu_eq]) ?_
            refine x_ireturn dX1_doRead_129 rfl ?_
            unfold kRd1 at hq; rw [← hszd] at hq
            rw [cif_f (fun h => absurd h.1 (by omega))] at hq
            rw [hI3, hI2, hI1]
            exact hq.ret hU1
          · skip
            rw [nI_inj0 (by omega)] at c56
            refine x_iload_n 60 dX1_doRead_59 rfl rfl ?_
            refine x_if_le 85 63 dX1_doRead_60 (by decide) rfl (fun c60 => ?_) (fun c60 => ?_)
            · skip
              rw [nI_le0 (by omega)] at c60
              refine x_aload_n 86 dX1_doRead_85 rfl rfl ?_
              refine x_iload_n 87 dX1_doRead_86 rfl rfl ?_
              refine x_aload 89 dX1_doRead_87 rfl rfl ?_
              refine x_geti 92 dX1_doRead_89 rfl fl_X1_202 (hU1.ks.l8 (by omega)) ?_
              refine x_vi (w := r_1.2.1 8 p_ 1) rfl ?_
              refine x_vi (w := nI sz) hsz ?_
              refine x_callS (as := [.int (nI m), .int (nI sz)]) (rest := [.ref (x.ad 0 0)]) (n' := n - 1) 95 dX1_doRead_92 rfl ms_X1_636 rfl rfl (xnh rfl) (by omega) (xst (Nat.le_of_ble_eq_true rfl)) (c_J3_min (by omega) (by omega) (by omega) ?_)
              change X _ _ _ _ _ _ _ _ _ _
              refine x_puti 98 dX1_doRead_95 rfl fl_X1_639 rfl rfl (hU1.ks.l0 (by omega)) ?_
              refine k_nmA (v := w1) (kI_xu (c := 0) rfl) fun I1 hI1 => ?_
              refine x_aload 100 dX1_doRead_98 rfl rfl ?_
              refine x_getz 103 dX1_doRead_100 rfl fl_X1_642 (hU1.ks.l8 (by omega)) (hU1.ks.z8_0 (by omega)) ?_
              refine x_iconst (v := 0) 104 dX1_doRead_103 rfl rfl ?_
              refine x_aload_n 105 dX1_doRead_104 rfl rfl ?_
              refine x_getz 108 dX1_doRead_105 rfl fl_X1_61 (hU1.ks.l0 (by omega)) (hU1.ks.z0_13 (by omega)) ?_
              refine x_iconst (v := 0) 109 dX1_doRead_108 rfl rfl ?_
              refine x_aload_n 110 dX1_doRead_109 rfl rfl ?_
              refine x_geti 113 dX1_doRead_110 rfl fl_X1_639 (hU1.ks.l0 (by omega)) ?_
              refine x_vi (w := I1 0 0 14) rfl ?_
              refine x_vi (w := nI ((min m sz))) (by rw [hI1, xu_eq]) ?_
              refine x_copyi (sp := 0) (dp := 0) (m := ((min m sz))) 116 dX1_doRead_113 rfl cp_X1_148 ar_44 ar_28 (Or.inr ⟨rfl, by decide, by decide⟩) ⟨by decide, fun h => by cases h⟩ (hU1.ks.l44 (by omega)) (hU1.ks.l28 (by omega)) (by decide) (by omega) (xst (Nat.le_of_ble_eq_true rfl)) ⟨by omega, by omega, by omega⟩ (by rw [(hU1.ks.n44 (by omega))]; omega) (by rw [(hU1.ks.n28 (by omega))]; omega) ?_
              refine k_nmA (v := w1) (A1 := xur I1 28 0 (va_cpy (I1 44 p_) (I1 28 0) 0 0 ((min m sz)))) (kI_xur (c := 28) rfl) fun I2 hI2 => ?_
              refine x_aload 118 dX1_doRead_116 rfl rfl ?_
              refine x_aload_n 119 dX1_doRead_118 rfl rfl ?_
              refine x_geti 122 dX1_doRead_119 rfl fl_X1_639 (hU1.ks.l0 (by omega)) ?_
              refine x_vi (w := I2 0 0 14) rfl ?_
              refine x_vi (w := nI ((min m sz))) (by rw [hI2, xur_c (by decide), hI1, xu_eq]) ?_
              refine x_callV (as := [.int (nI ((min m sz)))]) (rest := []) (i := p_) (n' := n - 1) 125 dX1_doRead_122 rfl mv_X1_643 rfl rfl (hU1.ks.l8 (by omega)) (xnh rfl) (by omega) (xst (Nat.le_of_ble_eq_true rfl)) (c_X9_take (I := kI I2 w1.t) (s := sz) hU1.ks (by omega) (by omega) (by omega) (by rw [show kI I2 w1.t 8 p_ 1 = I2 8 p_ 1 from rfl, hI2, xur_c (by decide), hI1, xu_c (by decide)]; exact hsz) (by omega) ?_)
              change X _ _ _ _ _ _ _ _ _ _
              refine k_nmA (v := w1) (A1 := (pTak I2 p_ sz ((min m sz)))) kI_pTak fun I3 hI3 => ?_
              refine x_aload_n 126 dX1_doRead_125 rfl rfl ?_
              refine x_geti 129 dX1_doRead_126 rfl fl_X1_639 (hU1.ks.l0 (by omega)) ?_
              refine x_vi (w := I3 0 0 14) rfl ?_
              refine x_vi (w := nI ((min m sz))) (by rw [hI3]; unfold pTak; rw [xu_c (by decide), xfil_c (by decide), hI2, xur_c (by decide), hI1, xu_eq]) ?_
              refine x_ireturn dX1_doRead_129 rfl ?_
              unfold kRd1 at hq; rw [← hszd] at hq
              rw [cif_f (fun h => absurd h.2.1 (by omega))] at hq
              rw [hI3, hI2, hI1]
              exact hq.ret hU1
            · skip
              rw [nI_le0 (by omega)] at c60
              refine x_aload_n 64 dX1_doRead_63 rfl rfl ?_
              refine x_aload_n 65 dX1_doRead_64 rfl rfl ?_
              refine x_geti 68 dX1_doRead_65 rfl fl_X1_240 (hU1.ks.l7 (by omega)) ?_
              refine x_vi (w := r_1.2.1 7 o_ 1) rfl ?_
              refine x_vi (w := nI p_) hpe ?_
              refine x_iconst (v := 1) 69 dX1_doRead_68 rfl rfl ?_
              refine x_callV (as := [.int (nI p_), .int 1]) (rest := []) (i := 0) (n' := n - 1) 72 dX1_doRead_69 rfl mv_X1_633 rfl rfl (hU1.ks.l0 (by omega)) (xnh rfl) (by omega) (xst (Nat.le_of_ble_eq_true rfl)) (c_X1_hasSide (I := kI r_1.2.1 w1.t) (R := kR r_1.2.2.1 w1.u) hU1.ks (hK_1.rf.k (u := w1.u)) (by omega) ?_)
              change X _ _ _ _ _ _ _ _ _ _
              refine x_vi (w := b2i (kHasSide r_1.2.1 r_1.2.2.1 (nI p_) 1)) rfl ?_
              refine x_if_eq 85 75 dX1_doRead_72 (by decide) rfl (fun c72 => ?_) (fun c72 => ?_)
              · skip
                have c72 : ¬ (kHasSide r_1.2.1 r_1.2.2.1 (nI p_) 1) := b2i_0.mp c72
                refine x_aload_n 86 dX1_doRead_85 rfl rfl ?_
                refine x_iload_n 87 dX1_doRead_86 rfl rfl ?_
                refine x_aload 89 dX1_doRead_87 rfl rfl ?_
                refine x_geti 92 dX1_doRead_89 rfl fl_X1_202 (hU1.ks.l8 (by omega)) ?_
                refine x_vi (w := r_1.2.1 8 p_ 1) rfl ?_
                refine x_vi (w := nI sz) hsz ?_
                refine x_callS (as := [.int (nI m), .int (nI sz)]) (rest := [.ref (x.ad 0 0)]) (n' := n - 1) 95 dX1_doRead_92 rfl ms_X1_636 rfl rfl (xnh rfl) (by omega) (xst (Nat.le_of_ble_eq_true rfl)) (c_J3_min (by omega) (by omega) (by omega) ?_)
                change X _ _ _ _ _ _ _ _ _ _
                refine x_puti 98 dX1_doRead_95 rfl fl_X1_639 rfl rfl (hU1.ks.l0 (by omega)) ?_
                refine k_nmA (v := w1) (kI_xu (c := 0) rfl) fun I1 hI1 => ?_
                refine x_aload 100 dX1_doRead_98 rfl rfl ?_
                refine x_getz 103 dX1_doRead_100 rfl fl_X1_642 (hU1.ks.l8 (by omega)) (hU1.ks.z8_0 (by omega)) ?_
                refine x_iconst (v := 0) 104 dX1_doRead_103 rfl rfl ?_
                refine x_aload_n 105 dX1_doRead_104 rfl rfl ?_
                refine x_getz 108 dX1_doRead_105 rfl fl_X1_61 (hU1.ks.l0 (by omega)) (hU1.ks.z0_13 (by omega)) ?_
                refine x_iconst (v := 0) 109 dX1_doRead_108 rfl rfl ?_
                refine x_aload_n 110 dX1_doRead_109 rfl rfl ?_
                refine x_geti 113 dX1_doRead_110 rfl fl_X1_639 (hU1.ks.l0 (by omega)) ?_
                refine x_vi (w := I1 0 0 14) rfl ?_
                refine x_vi (w := nI ((min m sz))) (by rw [hI1, xu_eq]) ?_
                refine x_copyi (sp := 0) (dp := 0) (m := ((min m sz))) 116 dX1_doRead_113 rfl cp_X1_148 ar_44 ar_28 (Or.inr ⟨rfl, by decide, by decide⟩) ⟨by decide, fun h => by cases h⟩ (hU1.ks.l44 (by omega)) (hU1.ks.l28 (by omega)) (by decide) (by omega) (xst (Nat.le_of_ble_eq_true rfl)) ⟨by omega, by omega, by omega⟩ (by rw [(hU1.ks.n44 (by omega))]; omega) (by rw [(hU1.ks.n28 (by omega))]; omega) ?_
                refine k_nmA (v := w1) (A1 := xur I1 28 0 (va_cpy (I1 44 p_) (I1 28 0) 0 0 ((min m sz)))) (kI_xur (c := 28) rfl) fun I2 hI2 => ?_
                refine x_aload 118 dX1_doRead_116 rfl rfl ?_
                refine x_aload_n 119 dX1_doRead_118 rfl rfl ?_
                refine x_geti 122 dX1_doRead_119 rfl fl_X1_639 (hU1.ks.l0 (by omega)) ?_
                refine x_vi (w := I2 0 0 14) rfl ?_
                refine x_vi (w := nI ((min m sz))) (by rw [hI2, xur_c (by decide), hI1, xu_eq]) ?_
                refine x_callV (as := [.int (nI ((min m sz)))]) (rest := []) (i := p_) (n' := n - 1) 125 dX1_doRead_122 rfl mv_X1_643 rfl rfl (hU1.ks.l8 (by omega)) (xnh rfl) (by omega) (xst (Nat.le_of_ble_eq_true rfl)) (c_X9_take (I := kI I2 w1.t) (s := sz) hU1.ks (by omega) (by omega) (by omega) (by rw [show kI I2 w1.t 8 p_ 1 = I2 8 p_ 1 from rfl, hI2, xur_c (by decide), hI1, xu_c (by decide)]; exact hsz) (by omega) ?_)
                change X _ _ _ _ _ _ _ _ _ _
                refine k_nmA (v := w1) (A1 := (pTak I2 p_ sz ((min m sz)))) kI_pTak fun I3 hI3 => ?_
                refine x_aload_n 126 dX1_doRead_125 rfl rfl ?_
                refine x_geti 129 dX1_doRead_126 rfl fl_X1_639 (hU1.ks.l0 (by omega)) ?_
                refine x_vi (w := I3 0 0 14) rfl ?_
                refine x_vi (w := nI ((min m sz))) (by rw [hI3]; unfold pTak; rw [xu_c (by decide), xfil_c (by decide), hI2, xur_c (by decide), hI1, xu_eq]) ?_
                refine x_ireturn dX1_doRead_129 rfl ?_
                unfold kRd1 at hq; rw [← hszd] at hq
                rw [cif_f (fun h => c72 h.2.2)] at hq
                rw [hI3, hI2, hI1]
                exact hq.ret hU1
              · skip
                have c72 : kHasSide r_1.2.1 r_1.2.2.1 (nI p_) 1 := b2i_n0.mp c72
                unfold kRd1 at hq; rw [← hszd] at hq
                rw [cif_t (show sz = 0 ∧ 0 < m ∧ kHasSide r_1.2.1 r_1.2.2.1 (nI p_) 1 from ⟨by omega, by omega, c72⟩)] at hq
                refine x_aload_n 76 dX1_doRead_75 rfl rfl ?_
                refine x_getz 79 dX1_doRead_76 rfl fl_X1_53 (hU1.ks.l0 (by omega)) (hU1.ks.z0_10 (by omega)) ?_
                refine x_bipush (v := -7) 81 dX1_doRead_79 rfl rfl ?_
                refine x_callV (as := [.int (-7)]) (rest := []) (i := 0) (n' := n - 1) 84 dX1_doRead_81 rfl mv_X1_364 rfl rfl (hU1.ks.l3 (by omega)) (xnh rfl) (by omega) (xst (Nat.le_of_ble_eq_true rfl)) (c_X4_by hU1.ks (by omega) ?_)
                change X _ _ _ _ _ _ _ _ _ _
                refine k_nmA (v := w1) (A1 := (xu r_1.2.1 3 0 0 ((-7)))) (by (repeat (first | rw [kI_xu] | rw [kI_xur] | rw [kI_xfil])) <;> rfl) fun I1 hI1 => ?_
                refine x_athrow dX1_doRead_84 (xnh rfl) ?_
                rw [hI1]
                exact hq.thr (by decide) hU1
        · skip
          intro hz1 w1 hU1
          rw [kU_no hz1] at hq
          exact hq.no hz1 hU1
    · skip
      rw [if_pos c10] at hq
      refine x_aload_n 14 dX1_doRead_13 rfl rfl ?_
      refine x_getz 17 dX1_doRead_14 rfl fl_X1_53 (hT.ks.l0 (by omega)) (hT.ks.z0_10 (by omega)) ?_
      refine x_bipush (v := -5) 19 dX1_doRead_17 rfl rfl ?_
      refine x_callV (as := [.int (-5)]) (rest := []) (i := 0) (n' := n - 1) 22 dX1_doRead_19 rfl mv_X1_364 rfl rfl (hT.ks.l3 (by omega)) (xnh rfl) (by omega) (xst (Nat.le_of_ble_eq_true rfl)) (c_X4_by hT.ks (by omega) ?_)
      change X _ _ _ _ _ _ _ _ _ _
      refine k_nmA (v := v) (A1 := (xu I 3 0 0 ((-5)))) (by (repeat (first | rw [kI_xu] | rw [kI_xur] | rw [kI_xfil])) <;> rfl) fun I1 hI1 => ?_
      refine x_athrow dX1_doRead_22 (xnh rfl) ?_
      rw [hI1]
      exact hq.thr (by decide) hT
  · skip
    intro ho_
    have ho_ : R 46 me d = none := ho_
    try dsimp only at hq
    rw [ho_] at hq
    try dsimp only at hq
    rw [kI_xu (c := 3) rfl]
    exact hq.thr (by decide) hT
def kWrP (A : xI) (p s m : Nat) : xI := xu (xur A 44 p (va_cpy (A 27 0) (A 44 p) 0 s m)) 8 p 1 (nI (s + m))
noncomputable def kWr1 (s : kK) (p m : Nat) : kQ := cif (kHasSide s.1 s.2.1 (nI p) 0) (if 64 < iN (s.1 8 p 1) + m then kRf s (-7) else kRt (kWrP s.1 p (iN (s.1 8 p 1)) m, s.2.1, s.2.2) (nI m)) (kRf s (-10))
def kWrF (A : xI) (o f q m : Nat) : xI := xu (xur (xu A 7 o 6 (nI (q + m))) 36 f (va_cpy (xu A 7 o 6 (nI (q + m)) 27 0) (xu A 7 o 6 (nI (q + m)) 36 f) 0 q m)) 6 f 3 (nI (max (iN (A 6 f 3)) (q + m)))
def kWr2 (s : kK) (o f q m : Nat) : kQ := if 8192 < q + m then kRf s (-11) else if m = 0 then kRt (xu s.1 7 o 6 (nI (q + m)), s.2.1, s.2.2) 0 else kRt (kWrF s.1 o f q m, s.2.1, s.2.2) (nI m)
noncomputable def kDoWrite (N : Nat) (s : kK) (me d m : Nat) : kQ := match s.2.1 46 me d with
  | none => kRf s (-2)
  | some o => if s.1 7 o 4 = 0 then kRf s (-5) else cif (oPipe s.2.1 o) (kAs (kPk s o) s (kU (kAccess N s me 6 (s.1 7 o 1) 0 0 1) fun s' => kWr1 s' (iN (s.1 7 o 1)) m))
    (kU (kAccess N s me 5 (nI o) 0 0 1) fun s' => kU (kAccess N s' me 0 (nI (kFl s o)) 0 0 1) fun s' => kWr2 s' o (kFl s o) (iN (if s'.1 7 o 5 = 0 then s'.1 7 o 6 else s'.1 6 (kFl s o) 3)) m)
theorem dX1_doWrite_0 : decode cX1_doWrite 0 = .ok (.aload_n 0, 1) := by decide +kernel
theorem dX1_doWrite_1 : decode cX1_doWrite 1 = .ok (.iload_n 1, 1) := by decide +kernel
theorem dX1_doWrite_2 : decode cX1_doWrite 2 = .ok (.invokevirtual 544, 3) := by decide +kernel
theorem dX1_doWrite_5 : decode cX1_doWrite 5 = .ok (.astore_n 3, 1) := by decide +kernel
theorem dX1_doWrite_6 : decode cX1_doWrite 6 = .ok (.aload_n 3, 1) := by decide +kernel
theorem dX1_doWrite_7 : decode cX1_doWrite 7 = .ok (.getfield 611, 3) := by decide +kernel
theorem dX1_doWrite_10 : decode cX1_doWrite 10 = .ok (.ifCond .ne 13, 3) := by decide +kernel
theorem dX1_doWrite_13 : decode cX1_doWrite 13 = .ok (.aload_n 0, 1) := by decide +kernel
theorem dX1_doWrite_14 : decode cX1_doWrite 14 = .ok (.getfield 53, 3) := by decide +kernel
theorem dX1_doWrite_17 : decode cX1_doWrite 17 = .ok (.bipush (-5), 2) := by decide +kernel
theorem dX1_doWrite_19 : decode cX1_doWrite 19 = .ok (.invokevirtual 364, 3) := by decide +kernel
theorem dX1_doWrite_22 : decode cX1_doWrite 22 = .ok (.athrow, 1) := by decide +kernel
theorem dX1_doWrite_23 : decode cX1_doWrite 23 = .ok (.aload_n 3, 1) := by decide +kernel
theorem dX1_doWrite_24 : decode cX1_doWrite 24 = .ok (.invokevirtual 237, 3) := by decide +kernel
theorem dX1_doWrite_27 : decode cX1_doWrite 27 = .ok (.ifCond .eq 100, 3) := by decide +kernel
theorem dX1_doWrite_30 : decode cX1_doWrite 30 = .ok (.aload_n 0, 1) := by decide +kernel
theorem dX1_doWrite_31 : decode cX1_doWrite 31 = .ok (.bipush 6, 2) := by decide +kernel
theorem dX1_doWrite_33 : decode cX1_doWrite 33 = .ok (.aload_n 3, 1) := by decide +kernel
theorem dX1_doWrite_34 : decode cX1_doWrite 34 = .ok (.getfield 240, 3) := by decide +kernel
theorem dX1_doWrite_37 : decode cX1_doWrite 37 = .ok (.invokevirtual 588, 3) := by decide +kernel
theorem dX1_doWrite_40 : decode cX1_doWrite 40 = .ok (.aload_n 0, 1) := by decide +kernel
theorem dX1_doWrite_41 : decode cX1_doWrite 41 = .ok (.getfield 33, 3) := by decide +kernel
theorem dX1_doWrite_44 : decode cX1_doWrite 44 = .ok (.aload_n 3, 1) := by decide +kernel
theorem dX1_doWrite_45 : decode cX1_doWrite 45 = .ok (.getfield 240, 3) := by decide +kernel
theorem dX1_doWrite_48 : decode cX1_doWrite 48 = .ok (.aaload, 1) := by decide +kernel
theorem dX1_doWrite_49 : decode cX1_doWrite 49 = .ok (.astore 4, 2) := by decide +kernel
theorem dX1_doWrite_51 : decode cX1_doWrite 51 = .ok (.aload_n 0, 1) := by decide +kernel
theorem dX1_doWrite_52 : decode cX1_doWrite 52 = .ok (.aload_n 3, 1) := by decide +kernel
theorem dX1_doWrite_53 : decode cX1_doWrite 53 = .ok (.getfield 240, 3) := by decide +kernel
theorem dX1_doWrite_56 : decode cX1_doWrite 56 = .ok (.iconst 0, 1) := by decide +kernel
theorem dX1_doWrite_57 : decode cX1_doWrite 57 = .ok (.invokevirtual 633, 3) := by decide +kernel
theorem dX1_doWrite_60 : decode cX1_doWrite 60 = .ok (.ifCond .ne 13, 3) := by decide +kernel
theorem dX1_doWrite_63 : decode cX1_doWrite 63 = .ok (.aload_n 0, 1) := by decide +kernel
theorem dX1_doWrite_64 : decode cX1_doWrite 64 = .ok (.getfield 53, 3) := by decide +kernel
theorem dX1_doWrite_67 : decode cX1_doWrite 67 = .ok (.bipush (-10), 2) := by decide +kernel
theorem dX1_doWrite_69 : decode cX1_doWrite 69 = .ok (.invokevirtual 364, 3) := by decide +kernel
theorem dX1_doWrite_72 : decode cX1_doWrite 72 = .ok (.athrow, 1) := by decide +kernel
theorem dX1_doWrite_73 : decode cX1_doWrite 73 = .ok (.aload 4, 2) := by decide +kernel
theorem dX1_doWrite_75 : decode cX1_doWrite 75 = .ok (.getfield 202, 3) := by decide +kernel
theorem dX1_doWrite_78 : decode cX1_doWrite 78 = .ok (.iload_n 2, 1) := by decide +kernel
theorem dX1_doWrite_79 : decode cX1_doWrite 79 = .ok (.iadd, 1) := by decide +kernel
theorem dX1_doWrite_80 : decode cX1_doWrite 80 = .ok (.bipush 64, 2) := by decide +kernel
theorem dX1_doWrite_82 : decode cX1_doWrite 82 = .ok (.if_icmp .le 13, 3) := by decide +kernel
theorem dX1_doWrite_85 : decode cX1_doWrite 85 = .ok (.aload_n 0, 1) := by decide +kernel
theorem dX1_doWrite_86 : decode cX1_doWrite 86 = .ok (.getfield 53, 3) := by decide +kernel
theorem dX1_doWrite_89 : decode cX1_doWrite 89 = .ok (.bipush (-7), 2) := by decide +kernel
theorem dX1_doWrite_91 : decode cX1_doWrite 91 = .ok (.invokevirtual 364, 3) := by decide +kernel
theorem dX1_doWrite_94 : decode cX1_doWrite 94 = .ok (.athrow, 1) := by decide +kernel
theorem dX1_doWrite_95 : decode cX1_doWrite 95 = .ok (.aload_n 0, 1) := by decide +kernel
theorem dX1_doWrite_96 : decode cX1_doWrite 96 = .ok (.getfield 57, 3) := by decide +kernel
theorem dX1_doWrite_99 : decode cX1_doWrite 99 = .ok (.iconst 0, 1) := by decide +kernel
theorem dX1_doWrite_100 : decode cX1_doWrite 100 = .ok (.aload 4, 2) := by decide +kernel
theorem dX1_doWrite_102 : decode cX1_doWrite 102 = .ok (.getfield 642, 3) := by decide +kernel
theorem dX1_doWrite_105 : decode cX1_doWrite 105 = .ok (.aload 4, 2) := by decide +kernel
theorem dX1_doWrite_107 : decode cX1_doWrite 107 = .ok (.getfield 202, 3) := by decide +kernel
theorem dX1_doWrite_110 : decode cX1_doWrite 110 = .ok (.iload_n 2, 1) := by decide +kernel
theorem dX1_doWrite_111 : decode cX1_doWrite 111 = .ok (.invokestatic 148, 3) := by decide +kernel
theorem dX1_doWrite_114 : decode cX1_doWrite 114 = .ok (.aload 4, 2) := by decide +kernel
theorem dX1_doWrite_116 : decode cX1_doWrite 116 = .ok (.dup, 1) := by decide +kernel
theorem dX1_doWrite_117 : decode cX1_doWrite 117 = .ok (.getfield 202, 3) := by decide +kernel
theorem dX1_doWrite_120 : decode cX1_doWrite 120 = .ok (.iload_n 2, 1) := by decide +kernel
theorem dX1_doWrite_121 : decode cX1_doWrite 121 = .ok (.iadd, 1) := by decide +kernel
theorem dX1_doWrite_122 : decode cX1_doWrite 122 = .ok (.putfield 202, 3) := by decide +kernel
theorem dX1_doWrite_125 : decode cX1_doWrite 125 = .ok (.iload_n 2, 1) := by decide +kernel
theorem dX1_doWrite_126 : decode cX1_doWrite 126 = .ok (.ireturn, 1) := by decide +kernel
theorem dX1_doWrite_127 : decode cX1_doWrite 127 = .ok (.aload_n 0, 1) := by decide +kernel
theorem dX1_doWrite_128 : decode cX1_doWrite 128 = .ok (.iconst 5, 1) := by decide +kernel
theorem dX1_doWrite_129 : decode cX1_doWrite 129 = .ok (.aload_n 0, 1) := by decide +kernel
theorem dX1_doWrite_130 : decode cX1_doWrite 130 = .ok (.aload_n 3, 1) := by decide +kernel
theorem dX1_doWrite_131 : decode cX1_doWrite 131 = .ok (.invokevirtual 646, 3) := by decide +kernel
theorem dX1_doWrite_134 : decode cX1_doWrite 134 = .ok (.invokevirtual 588, 3) := by decide +kernel
theorem dX1_doWrite_137 : decode cX1_doWrite 137 = .ok (.aload_n 0, 1) := by decide +kernel
theorem dX1_doWrite_138 : decode cX1_doWrite 138 = .ok (.iconst 0, 1) := by decide +kernel
theorem dX1_doWrite_139 : decode cX1_doWrite 139 = .ok (.aload_n 3, 1) := by decide +kernel
theorem dX1_doWrite_140 : decode cX1_doWrite 140 = .ok (.getfield 255, 3) := by decide +kernel
theorem dX1_doWrite_143 : decode cX1_doWrite 143 = .ok (.getfield 448, 3) := by decide +kernel
theorem dX1_doWrite_146 : decode cX1_doWrite 146 = .ok (.invokevirtual 588, 3) := by decide +kernel
theorem dX1_doWrite_149 : decode cX1_doWrite 149 = .ok (.aload_n 3, 1) := by decide +kernel
theorem dX1_doWrite_150 : decode cX1_doWrite 150 = .ok (.getfield 613, 3) := by decide +kernel
theorem dX1_doWrite_153 : decode cX1_doWrite 153 = .ok (.ifCond .eq 13, 3) := by decide +kernel
theorem dX1_doWrite_156 : decode cX1_doWrite 156 = .ok (.aload_n 3, 1) := by decide +kernel
theorem dX1_doWrite_157 : decode cX1_doWrite 157 = .ok (.getfield 255, 3) := by decide +kernel
theorem dX1_doWrite_160 : decode cX1_doWrite 160 = .ok (.getfield 285, 3) := by decide +kernel
theorem dX1_doWrite_163 : decode cX1_doWrite 163 = .ok (.goto 7, 3) := by decide +kernel
theorem dX1_doWrite_166 : decode cX1_doWrite 166 = .ok (.aload_n 3, 1) := by decide +kernel
theorem dX1_doWrite_167 : decode cX1_doWrite 167 = .ok (.getfield 310, 3) := by decide +kernel
theorem dX1_doWrite_170 : decode cX1_doWrite 170 = .ok (.istore 4, 2) := by decide +kernel
theorem dX1_doWrite_172 : decode cX1_doWrite 172 = .ok (.iload 4, 2) := by decide +kernel
theorem dX1_doWrite_174 : decode cX1_doWrite 174 = .ok (.iload_n 2, 1) := by decide +kernel
theorem dX1_doWrite_175 : decode cX1_doWrite 175 = .ok (.iadd, 1) := by decide +kernel
theorem dX1_doWrite_176 : decode cX1_doWrite 176 = .ok (.sipush 8192, 3) := by decide +kernel
theorem dX1_doWrite_179 : decode cX1_doWrite 179 = .ok (.if_icmp .le 13, 3) := by decide +kernel
theorem dX1_doWrite_182 : decode cX1_doWrite 182 = .ok (.aload_n 0, 1) := by decide +kernel
theorem dX1_doWrite_183 : decode cX1_doWrite 183 = .ok (.getfield 53, 3) := by decide +kernel
theorem dX1_doWrite_186 : decode cX1_doWrite 186 = .ok (.bipush (-11), 2) := by decide +kernel
theorem dX1_doWrite_188 : decode cX1_doWrite 188 = .ok (.invokevirtual 364, 3) := by decide +kernel
theorem dX1_doWrite_191 : decode cX1_doWrite 191 = .ok (.athrow, 1) := by decide +kernel
theorem dX1_doWrite_192 : decode cX1_doWrite 192 = .ok (.aload_n 3, 1) := by decide +kernel
theorem dX1_doWrite_193 : decode cX1_doWrite 193 = .ok (.iload 4, 2) := by decide +kernel
theorem dX1_doWrite_195 : decode cX1_doWrite 195 = .ok (.iload_n 2, 1) := by decide +kernel
theorem dX1_doWrite_196 : decode cX1_doWrite 196 = .ok (.iadd, 1) := by decide +kernel
theorem dX1_doWrite_197 : decode cX1_doWrite 197 = .ok (.putfield 310, 3) := by decide +kernel
theorem dX1_doWrite_200 : decode cX1_doWrite 200 = .ok (.iload_n 2, 1) := by decide +kernel
theorem dX1_doWrite_201 : decode cX1_doWrite 201 = .ok (.ifCond .ne 5, 3) := by decide +kernel
theorem dX1_doWrite_204 : decode cX1_doWrite 204 = .ok (.iconst 0, 1) := by decide +kernel
theorem dX1_doWrite_205 : decode cX1_doWrite 205 = .ok (.ireturn, 1) := by decide +kernel
theorem dX1_doWrite_206 : decode cX1_doWrite 206 = .ok (.aload_n 0, 1) := by decide +kernel
theorem dX1_doWrite_207 : decode cX1_doWrite 207 = .ok (.getfield 57, 3) := by decide +kernel
theorem dX1_doWrite_210 : decode cX1_doWrite 210 = .ok (.iconst 0, 1) := by decide +kernel
theorem dX1_doWrite_211 : decode cX1_doWrite 211 = .ok (.aload_n 3, 1) := by decide +kernel
theorem dX1_doWrite_212 : decode cX1_doWrite 212 = .ok (.getfield 255, 3) := by decide +kernel
theorem dX1_doWrite_215 : decode cX1_doWrite 215 = .ok (.getfield 279, 3) := by decide +kernel
theorem dX1_doWrite_218 : decode cX1_doWrite 218 = .ok (.iload 4, 2) := by decide +kernel
theorem dX1_doWrite_220 : decode cX1_doWrite 220 = .ok (.iload_n 2, 1) := by decide +kernel
theorem dX1_doWrite_221 : decode cX1_doWrite 221 = .ok (.invokestatic 148, 3) := by decide +kernel
theorem dX1_doWrite_224 : decode cX1_doWrite 224 = .ok (.aload_n 3, 1) := by decide +kernel
theorem dX1_doWrite_225 : decode cX1_doWrite 225 = .ok (.getfield 255, 3) := by decide +kernel
theorem dX1_doWrite_228 : decode cX1_doWrite 228 = .ok (.aload_n 3, 1) := by decide +kernel
theorem dX1_doWrite_229 : decode cX1_doWrite 229 = .ok (.getfield 255, 3) := by decide +kernel
theorem dX1_doWrite_232 : decode cX1_doWrite 232 = .ok (.getfield 285, 3) := by decide +kernel
theorem dX1_doWrite_235 : decode cX1_doWrite 235 = .ok (.iload 4, 2) := by decide +kernel
theorem dX1_doWrite_237 : decode cX1_doWrite 237 = .ok (.iload_n 2, 1) := by decide +kernel
theorem dX1_doWrite_238 : decode cX1_doWrite 238 = .ok (.iadd, 1) := by decide +kernel
theorem dX1_doWrite_239 : decode cX1_doWrite 239 = .ok (.invokestatic 425, 3) := by decide +kernel
theorem dX1_doWrite_242 : decode cX1_doWrite 242 = .ok (.putfield 285, 3) := by decide +kernel
theorem dX1_doWrite_245 : decode cX1_doWrite 245 = .ok (.iload_n 2, 1) := by decide +kernel
theorem dX1_doWrite_246 : decode cX1_doWrite 246 = .ok (.ireturn, 1) := by decide +kernel
set_option maxHeartbeats 4000000 in
set_option maxRecDepth 100000 in
theorem c_X1_doWrite {G : xG} {n : Nat} {Q : Outcome → xS → Prop} {x : kX} {I : xI} {R : xR} {v : kV} {th : List xTh} {mm : Nat} (hT : KT x v th) (hK : KI (I, R, th) x.N mm) {d m : Nat} (hd8 : d < 8) (hm2 : m ≤ 256) (hmm : mm + 100 < 16384) {me : Nat} (hme : R 0 0 19 = some me) (hme16 : me < 16) (hn : 14 ≤ n) (hq : kOs Q x (kDoWrite x.N (I, R, th) me d m)) : xCall G mX1_doWrite n [.ref (x.ad 0 0), .int (nI d), .int (nI m)] (kS I R x v) Q := by
  refine x_met (L0 := [(1, .ref (x.ad 0 0)), (1, .int (nI d)), (1, .int (nI m)), xo, xo]) (by decide +kernel) rfl ⟨Nat.le_of_ble_eq_true rfl, rfl⟩ ?_
  have hnb := hT.ks.nb
  unfold kDoWrite at hq
  refine x_aload_n 1 dX1_doWrite_0 rfl rfl ?_
  refine x_iload_n 2 dX1_doWrite_1 rfl rfl ?_
  refine x_callV (as := [.int (nI d)]) (rest := []) (i := 0) (n' := n - 1) 5 dX1_doWrite_2 rfl mv_X1_544 rfl rfl (hT.ks.l0 (by omega)) (xnh rfl) (by omega) (xst (Nat.le_of_ble_eq_true rfl)) (c_X1_has (I := kI I v.t) (R := kR R v.u) hT.ks ((kSx.rfl (s := (I, R, th))).2 0 0 19 rfl |>.trans hme) hme16 (by omega) (by omega) ?_ ?_)
  · skip
    intro o_ ho_
    have ho_ : R 46 me d = some o_ := ho_
    try dsimp only at hq
    rw [ho_] at hq
    try dsimp only at hq
    have ho3 := hK.rf.row ho_
    change X _ _ _ _ _ _ _ _ _ _
    refine x_astore_n 6 [(1, .ref (x.ad 0 0)), (1, .int (nI d)), (1, .int (nI m)), (1, .ref (x.ad 7 o_)), xo] dX1_doWrite_5 rfl (by decide) rfl ?_
    refine x_aload_n 7 dX1_doWrite_6 rfl rfl ?_
    refine x_geti 10 dX1_doWrite_7 rfl fl_X1_611 (hT.ks.l7 (by omega)) ?_
    refine x_vi (w := I 7 o_ 4) rfl ?_
    refine x_if_ne 23 13 dX1_doWrite_10 (by decide) rfl (fun c10 => ?_) (fun c10 => ?_)
    · skip
      rw [if_neg c10] at hq
      refine x_aload_n 24 dX1_doWrite_23 rfl rfl ?_
      refine x_callV (as := []) (rest := []) (i := o_) (n' := n - 1) 27 dX1_doWrite_24 rfl mv_X1_237 rfl rfl (hT.ks.l7 (by omega)) (xnh rfl) (by omega) (xst (Nat.le_of_ble_eq_true rfl)) (c_X8_isPipe hT.ks (by omega) (by omega) ?_)
      change X _ _ _ _ _ _ _ _ _ _
      refine x_vi (w := b2i (oPipe R o_)) rfl ?_
      refine x_if_eq 127 30 dX1_doWrite_27 (by decide) rfl (fun c27 => ?_) (fun c27 => ?_)
      · skip
        have c27 : ¬ (oPipe R o_) := b2i_0.mp c27
        rw [cif_f (show ¬ oPipe R o_ from c27)] at hq
        have hfl : R 7 o_ 0 = some (kFl (I, R, th) o_) := kFl_s (s := (I, R, th)) c27
        obtain ⟨f_, hf_⟩ : ∃ f_, f_ = kFl (I, R, th) o_ := ⟨_, rfl⟩
        rw [← hf_] at hfl
        rw [← hf_] at hq
        have hfN := hK.rf.of hfl
        refine x_aload_n 128 dX1_doWrite_127 rfl rfl ?_
        refine x_iconst (v := 5) 129 dX1_doWrite_128 rfl rfl ?_
        refine x_aload_n 130 dX1_doWrite_129 rfl rfl ?_
        refine x_aload_n 131 dX1_doWrite_130 rfl rfl ?_
        refine x_callV (as := [.ref (x.ad 7 o_)]) (rest := [.int 5, .ref (x.ad 0 0)]) (i := 0) (n' := n - 1) 134 dX1_doWrite_131 rfl mv_X1_646 rfl rfl (hT.ks.l0 (by omega)) (xnh rfl) (by omega) (xst (Nat.le_of_ble_eq_true rfl)) (c_X1_numberOf hT.ks (by omega) (by omega) ?_)
        change X _ _ _ _ _ _ _ _ _ _
        obtain ⟨r_1, hd1⟩ : ∃ r : kO, r = kAccess x.N (I, R, th) me 5 (nI o_) 0 0 1 := ⟨_, rfl⟩
        rw [← hd1] at hq
        have hK_1 : KI r_1.2 x.N (mm + 1) := by rw [hd1]; exact hK.access (hoaN (g := 5) (by omega) (kOf5 (by omega)))
        have hS_1 : kSx (I, R, th) r_1.2 := (kSx.rfl (s := (I, R, th))).trans (by rw [hd1]; exact sx_access)
        refine x_callV (as := [.int 5, .int (nI o_)]) (rest := []) (i := 0) (n' := n - 1) 137 dX1_doWrite_134 rfl mv_X1_588 rfl rfl (hT.ks.l0 (by omega)) (xnh rfl) (by omega) (xst (Nat.le_of_ble_eq_true rfl)) (c_X1_writes (g := 5) (oa := nI o_) hT hK (hoaN (g := 5) (by omega) (kOf5 (by omega))) (by omega) ((kSx.rfl (s := (I, R, th))).2 0 0 19 rfl |>.trans hme) hme16 (by omega) (kOutN hd1 ⟨?_, ?_⟩))
        · skip
          intro hz1 w1 hU1
          change X _ _ _ _ _ _ _ _ _ _
          rw [kU_ok hz1] at hq
          refine x_aload_n 138 dX1_doWrite_137 rfl rfl ?_
          refine x_iconst (v := 0) 139 dX1_doWrite_138 rfl rfl ?_
          refine x_aload_n 140 dX1_doWrite_139 rfl rfl ?_
          refine x_gets 143 dX1_doWrite_140 rfl fl_X1_255 (hU1.ks.l7 (by omega)) ((hS_1).2 7 o_ 0 rfl |>.trans hfl) ?_
          refine x_geti 146 dX1_doWrite_143 rfl fl_X1_448 (hU1.ks.l6 (by omega)) ?_
          refine x_vi (w := r_1.2.1 6 f_ 0) rfl ?_
          refine x_vi (w := nI f_) (hK_1.nm.1 f_ (by omega)) ?_
          obtain ⟨r_2, hd2⟩ : ∃ r : kO, r = kAccess x.N r_1.2 me 0 (nI f_) 0 0 1 := ⟨_, rfl⟩
          rw [← hd2] at hq
          have hK_2 : KI r_2.2 x.N ((mm + 1) + 1) := by rw [hd2]; exact hK_1.access (hoaN (g := 0) (by omega) (kOf0 (by omega)))
          have hS_2 : kSx (I, R, th) r_2.2 := (hS_1).trans (by rw [hd2]; exact sx_access)
          refine x_callV (as := [.int 0, .int (nI f_)]) (rest := []) (i := 0) (n' := n - 1) 149 dX1_doWrite_146 rfl mv_X1_588 rfl rfl (hU1.ks.l0 (by omega)) (xnh rfl) (by omega) (xst (Nat.le_of_ble_eq_true rfl)) (c_X1_writes (g := 0) (oa := nI f_) hU1 hK_1 (hoaN (g := 0) (by omega) (kOf0 (by omega))) (by omega) ((hS_1).2 0 0 19 rfl |>.trans hme) hme16 (by omega) (kOutN hd2 ⟨?_, ?_⟩))
          · skip
            intro hz2 w2 hU2
            change X _ _ _ _ _ _ _ _ _ _
            rw [kU_ok hz2] at hq
            have hlnk := hK_2.wf.len f_
            have hplk := hK_2.wf.plc o_
            obtain ⟨ln, hln⟩ : ∃ ln, ln = iN (r_2.2.1 6 f_ 3) := ⟨_, rfl⟩
            obtain ⟨pl, hpl⟩ : ∃ pl, pl = iN (r_2.2.1 7 o_ 6) := ⟨_, rfl⟩
            have hln1 : r_2.2.1 6 f_ 3 = nI ln ∧ ln ≤ 8192 := by rw [hln]; exact hlnk
            have hpl1 : r_2.2.1 7 o_ 6 = nI pl ∧ pl ≤ 8192 := by rw [hpl]; exact hplk
            have hln2 := hln1.2
            have hpl2 := hpl1.2
            refine x_aload_n 150 dX1_doWrite_149 rfl rfl ?_
            refine x_geti 153 dX1_doWrite_150 rfl fl_X1_613 (hU2.ks.l7 (by omega)) ?_
            refine x_vi (w := r_2.2.1 7 o_ 5) rfl ?_
            refine x_if_eq 166 156 dX1_doWrite_153 (by decide) rfl (fun c153 => ?_) (fun c153 => ?_)
            · skip
              refine x_aload_n 167 dX1_doWrite_166 rfl rfl ?_
              refine x_geti 170 dX1_doWrite_167 rfl fl_X1_310 (hU2.ks.l7 (by omega)) ?_
              refine x_vi (w := r_2.2.1 7 o_ 6) rfl ?_
              refine x_vi (w := nI pl) hpl1.1 ?_
              refine x_istore 172 [(1, .ref (x.ad 0 0)), (1, .int (nI d)), (1, .int (nI m)), (1, .ref (x.ad 7 o_)), (1, .int (nI pl))] dX1_doWrite_170 rfl (by decide) rfl ?_
              rw [show iN (if r_2.2.1 7 o_ 5 = 0 then r_2.2.1 7 o_ 6 else r_2.2.1 6 f_ 3) = pl by rw [if_pos c153]; exact hpl.symm] at hq
              unfold kWr2 at hq
              refine x_iload 174 dX1_doWrite_172 rfl rfl ?_
              refine x_iload_n 175 dX1_doWrite_174 rfl rfl ?_
              refine x_iaddn pl m 176 dX1_doWrite_175 rfl rfl rfl ?_
              refine x_sipush (v := 8192) 179 dX1_doWrite_176 rfl rfl ?_
              refine x_icmp_le 192 182 dX1_doWrite_179 (by decide) rfl (fun c179 => ?_) (fun c179 => ?_)
              · skip
                have c179 : pl + m ≤ 8192 := (nI_leI (a := pl + m) (b := 8192) (by omega) (by omega)).mp c179
                rw [if_neg (by omega)] at hq
                refine x_aload_n 193 dX1_doWrite_192 rfl rfl ?_
                refine x_iload 195 dX1_doWrite_193 rfl rfl ?_
                refine x_iload_n 196 dX1_doWrite_195 rfl rfl ?_
                refine x_iaddn pl m 197 dX1_doWrite_196 rfl rfl rfl ?_
                refine x_puti 200 dX1_doWrite_197 rfl fl_X1_310 rfl rfl (hU2.ks.l7 (by omega)) ?_
                refine k_nmA (v := w2) (kI_xu (c := 7) rfl) fun I1 hI1 => ?_
                refine x_iload_n 201 dX1_doWrite_200 rfl rfl ?_
                refine x_if_ne 206 204 dX1_doWrite_201 (by decide) rfl (fun c201 => ?_) (fun c201 => ?_)
                · skip
                  rw [nI_inj0 (by omega)] at c201
                  rw [if_neg (by omega)] at hq
                  refine x_aload_n 207 dX1_doWrite_206 rfl rfl ?_
                  refine x_getz 210 dX1_doWrite_207 rfl fl_X1_57 (hU2.ks.l0 (by omega)) (hU2.ks.z0_11 (by omega)) ?_
                  refine x_iconst (v := 0) 211 dX1_doWrite_210 rfl rfl ?_
                  refine x_aload_n 212 dX1_doWrite_211 rfl rfl ?_
                  refine x_gets 215 dX1_doWrite_212 rfl fl_X1_255 (hU2.ks.l7 (by omega)) ((hS_2).2 7 o_ 0 rfl |>.trans hfl) ?_
                  refine x_getz 218 dX1_doWrite_215 rfl fl_X1_279 (hU2.ks.l6 (by omega)) (hU2.ks.z6_5 (by omega)) ?_
                  refine x_iload 220 dX1_doWrite_218 rfl rfl ?_
                  refine x_iload_n 221 dX1_doWrite_220 rfl rfl ?_
                  refine x_copyi (sp := 0) (dp := pl) (m := m) 224 dX1_doWrite_221 rfl cp_X1_148 ar_27 ar_36 (Or.inr ⟨rfl, by decide, by decide⟩) ⟨by decide, fun h => by cases h⟩ (hU2.ks.l27 (by omega)) (hU2.ks.l36 (by omega)) (by decide) (by omega) (xst (Nat.le_of_ble_eq_true rfl)) ⟨by omega, by omega, by omega⟩ (by rw [(hU2.ks.n27 (by omega))]; omega) (by rw [(hU2.ks.n36 (by omega))]; omega) ?_
                  refine k_nmA (v := w2) (A1 := xur I1 36 f_ (va_cpy (I1 27 0) (I1 36 f_) 0 pl m)) (kI_xur (c := 36) rfl) fun I2 hI2 => ?_
                  refine x_aload_n 225 dX1_doWrite_224 rfl rfl ?_
                  refine x_gets 228 dX1_doWrite_225 rfl fl_X1_255 (hU2.ks.l7 (by omega)) ((hS_2).2 7 o_ 0 rfl |>.trans hfl) ?_
                  refine x_aload_n 229 dX1_doWrite_228 rfl rfl ?_
                  refine x_gets 232 dX1_doWrite_229 rfl fl_X1_255 (hU2.ks.l7 (by omega)) ((hS_2).2 7 o_ 0 rfl |>.trans hfl) ?_
                  refine x_geti 235 dX1_doWrite_232 rfl fl_X1_285 (hU2.ks.l6 (by omega)) ?_
                  refine x_vi (w := I2 6 f_ 3) rfl ?_
                  refine x_vi (w := nI ln) (by rw [hI2, xur_c (by decide), hI1, xu_c (by decide)]; exact hln1.1) ?_
                  refine x_iload 237 dX1_doWrite_235 rfl rfl ?_
                  refine x_iload_n 238 dX1_doWrite_237 rfl rfl ?_
                  refine x_iaddn pl m 239 dX1_doWrite_238 rfl rfl rfl ?_
                  refine x_callS (as := [.int (nI ln), .int (nI (pl + m))]) (rest := [.ref (x.ad 6 f_)]) (n' := n - 1) 242 dX1_doWrite_239 rfl ms_X1_425 rfl rfl (xnh rfl) (by omega) (xst (Nat.le_of_ble_eq_true rfl)) (c_J3_max (by omega) (by omega) (by omega) ?_)
                  change X _ _ _ _ _ _ _ _ _ _
                  refine x_puti 245 dX1_doWrite_242 rfl fl_X1_285 rfl rfl (hU2.ks.l6 (by omega)) ?_
                  refine k_nmA (v := w2) (kI_xu (c := 6) rfl) fun I3 hI3 => ?_
                  refine x_iload_n 246 dX1_doWrite_245 rfl rfl ?_
                  refine x_ireturn dX1_doWrite_246 rfl ?_
                  unfold kWrF at hq; rw [← hln] at hq
                  rw [hI3, hI2, hI1]
                  exact hq.ret hU2
                · skip
                  rw [nI_inj0 (by omega)] at c201
                  rw [if_pos (by omega)] at hq
                  refine x_iconst (v := 0) 205 dX1_doWrite_204 rfl rfl ?_
                  refine x_ireturn dX1_doWrite_205 rfl ?_
                  rw [hI1]
                  exact hq.ret hU2
              · skip
                have c179 : ¬ (pl + m ≤ 8192) := fun h => c179 ((nI_leI (a := pl + m) (b := 8192) (by omega) (by omega)).mpr h)
                rw [if_pos (by omega)] at hq
                refine x_aload_n 183 dX1_doWrite_182 rfl rfl ?_
                refine x_getz 186 dX1_doWrite_183 rfl fl_X1_53 (hU2.ks.l0 (by omega)) (hU2.ks.z0_10 (by omega)) ?_
                refine x_bipush (v := -11) 188 dX1_doWrite_186 rfl rfl ?_
                refine x_callV (as := [.int (-11)]) (rest := []) (i := 0) (n' := n - 1) 191 dX1_doWrite_188 rfl mv_X1_364 rfl rfl (hU2.ks.l3 (by omega)) (xnh rfl) (by omega) (xst (Nat.le_of_ble_eq_true rfl)) (c_X4_by hU2.ks (by omega) ?_)
                change X _ _ _ _ _ _ _ _ _ _
                refine k_nmA (v := w2) (A1 := (xu r_2.2.1 3 0 0 ((-11)))) (by (repeat (first | rw [kI_xu] | rw [kI_xur] | rw [kI_xfil])) <;> rfl) fun I1 hI1 => ?_
                refine x_athrow dX1_doWrite_191 (xnh rfl) ?_
                rw [hI1]
                exact hq.thr (by decide) hU2
            · skip
              refine x_aload_n 157 dX1_doWrite_156 rfl rfl ?_
              refine x_gets 160 dX1_doWrite_157 rfl fl_X1_255 (hU2.ks.l7 (by omega)) ((hS_2).2 7 o_ 0 rfl |>.trans hfl) ?_
              refine x_geti 163 dX1_doWrite_160 rfl fl_X1_285 (hU2.ks.l6 (by omega)) ?_
              refine x_vi (w := r_2.2.1 6 f_ 3) rfl ?_
              refine x_vi (w := nI ln) hln1.1 ?_
              refine x_goto 170 dX1_doWrite_163 (by decide) ?_
              refine x_istore 172 [(1, .ref (x.ad 0 0)), (1, .int (nI d)), (1, .int (nI m)), (1, .ref (x.ad 7 o_)), (1, .int (nI ln))] dX1_doWrite_170 rfl (by decide) rfl ?_
              rw [show iN (if r_2.2.1 7 o_ 5 = 0 then r_2.2.1 7 o_ 6 else r_2.2.1 6 f_ 3) = ln by rw [if_neg c153]; exact hln.symm] at hq
              unfold kWr2 at hq
              refine x_iload 174 dX1_doWrite_172 rfl rfl ?_
              refine x_iload_n 175 dX1_doWrite_174 rfl rfl ?_
              refine x_iaddn ln m 176 dX1_doWrite_175 rfl rfl rfl ?_
              refine x_sipush (v := 8192) 179 dX1_doWrite_176 rfl rfl ?_
              refine x_icmp_le 192 182 dX1_doWrite_179 (by decide) rfl (fun c179 => ?_) (fun c179 => ?_)
              · skip
                have c179 : ln + m ≤ 8192 := (nI_leI (a := ln + m) (b := 8192) (by omega) (by omega)).mp c179
                rw [if_neg (by omega)] at hq
                refine x_aload_n 193 dX1_doWrite_192 rfl rfl ?_
                refine x_iload 195 dX1_doWrite_193 rfl rfl ?_
                refine x_iload_n 196 dX1_doWrite_195 rfl rfl ?_
                refine x_iaddn ln m 197 dX1_doWrite_196 rfl rfl rfl ?_
                refine x_puti 200 dX1_doWrite_197 rfl fl_X1_310 rfl rfl (hU2.ks.l7 (by omega)) ?_
                refine k_nmA (v := w2) (kI_xu (c := 7) rfl) fun I1 hI1 => ?_
                refine x_iload_n 201 dX1_doWrite_200 rfl rfl ?_
                refine x_if_ne 206 204 dX1_doWrite_201 (by decide) rfl (fun c201 => ?_) (fun c201 => ?_)
                · skip
                  rw [nI_inj0 (by omega)] at c201
                  rw [if_neg (by omega)] at hq
                  refine x_aload_n 207 dX1_doWrite_206 rfl rfl ?_
                  refine x_getz 210 dX1_doWrite_207 rfl fl_X1_57 (hU2.ks.l0 (by omega)) (hU2.ks.z0_11 (by omega)) ?_
                  refine x_iconst (v := 0) 211 dX1_doWrite_210 rfl rfl ?_
                  refine x_aload_n 212 dX1_doWrite_211 rfl rfl ?_
                  refine x_gets 215 dX1_doWrite_212 rfl fl_X1_255 (hU2.ks.l7 (by omega)) ((hS_2).2 7 o_ 0 rfl |>.trans hfl) ?_
                  refine x_getz 218 dX1_doWrite_215 rfl fl_X1_279 (hU2.ks.l6 (by omega)) (hU2.ks.z6_5 (by omega)) ?_
                  refine x_iload 220 dX1_doWrite_218 rfl rfl ?_
                  refine x_iload_n 221 dX1_doWrite_220 rfl rfl ?_
                  refine x_copyi (sp := 0) (dp := ln) (m := m) 224 dX1_doWrite_221 rfl cp_X1_148 ar_27 ar_36 (Or.inr ⟨rfl, by decide, by decide⟩) ⟨by decide, fun h => by cases h⟩ (hU2.ks.l27 (by omega)) (hU2.ks.l36 (by omega)) (by decide) (by omega) (xst (Nat.le_of_ble_eq_true rfl)) ⟨by omega, by omega, by omega⟩ (by rw [(hU2.ks.n27 (by omega))]; omega) (by rw [(hU2.ks.n36 (by omega))]; omega) ?_
                  refine k_nmA (v := w2) (A1 := xur I1 36 f_ (va_cpy (I1 27 0) (I1 36 f_) 0 ln m)) (kI_xur (c := 36) rfl) fun I2 hI2 => ?_
                  refine x_aload_n 225 dX1_doWrite_224 rfl rfl ?_
                  refine x_gets 228 dX1_doWrite_225 rfl fl_X1_255 (hU2.ks.l7 (by omega)) ((hS_2).2 7 o_ 0 rfl |>.trans hfl) ?_
                  refine x_aload_n 229 dX1_doWrite_228 rfl rfl ?_
                  refine x_gets 232 dX1_doWrite_229 rfl fl_X1_255 (hU2.ks.l7 (by omega)) ((hS_2).2 7 o_ 0 rfl |>.trans hfl) ?_
                  refine x_geti 235 dX1_doWrite_232 rfl fl_X1_285 (hU2.ks.l6 (by omega)) ?_
                  refine x_vi (w := I2 6 f_ 3) rfl ?_
                  refine x_vi (w := nI ln) (by rw [hI2, xur_c (by decide), hI1, xu_c (by decide)]; exact hln1.1) ?_
                  refine x_iload 237 dX1_doWrite_235 rfl rfl ?_
                  refine x_iload_n 238 dX1_doWrite_237 rfl rfl ?_
                  refine x_iaddn ln m 239 dX1_doWrite_238 rfl rfl rfl ?_
                  refine x_callS (as := [.int (nI ln), .int (nI (ln + m))]) (rest := [.ref (x.ad 6 f_)]) (n' := n - 1) 242 dX1_doWrite_239 rfl ms_X1_425 rfl rfl (xnh rfl) (by omega) (xst (Nat.le_of_ble_eq_true rfl)) (c_J3_max (by omega) (by omega) (by omega) ?_)
                  change X _ _ _ _ _ _ _ _ _ _
                  refine x_puti 245 dX1_doWrite_242 rfl fl_X1_285 rfl rfl (hU2.ks.l6 (by omega)) ?_
                  refine k_nmA (v := w2) (kI_xu (c := 6) rfl) fun I3 hI3 => ?_
                  refine x_iload_n 246 dX1_doWrite_245 rfl rfl ?_
                  refine x_ireturn dX1_doWrite_246 rfl ?_
                  unfold kWrF at hq; rw [← hln] at hq
                  rw [hI3, hI2, hI1]
                  exact hq.ret hU2
                · skip
                  rw [nI_inj0 (by omega)] at c201
                  rw [if_pos (by omega)] at hq
                  refine x_iconst (v := 0) 205 dX1_doWrite_204 rfl rfl ?_
                  refine x_ireturn dX1_doWrite_205 rfl ?_
                  rw [hI1]
                  exact hq.ret hU2
              · skip
                have c179 : ¬ (ln + m ≤ 8192) := fun h => c179 ((nI_leI (a := ln + m) (b := 8192) (by omega) (by omega)).mpr h)
                rw [if_pos (by omega)] at hq
                refine x_aload_n 183 dX1_doWrite_182 rfl rfl ?_
                refine x_getz 186 dX1_doWrite_183 rfl fl_X1_53 (hU2.ks.l0 (by omega)) (hU2.ks.z0_10 (by omega)) ?_
                refine x_bipush (v := -11) 188 dX1_doWrite_186 rfl rfl ?_
                refine x_callV (as := [.int (-11)]) (rest := []) (i := 0) (n' := n - 1) 191 dX1_doWrite_188 rfl mv_X1_364 rfl rfl (hU2.ks.l3 (by omega)) (xnh rfl) (by omega) (xst (Nat.le_of_ble_eq_true rfl)) (c_X4_by hU2.ks (by omega) ?_)
                change X _ _ _ _ _ _ _ _ _ _
                refine k_nmA (v := w2) (A1 := (xu r_2.2.1 3 0 0 ((-11)))) (by (repeat (first | rw [kI_xu] | rw [kI_xur] | rw [kI_xfil])) <;> rfl) fun I1 hI1 => ?_
                refine x_athrow dX1_doWrite_191 (xnh rfl) ?_
                rw [hI1]
                exact hq.thr (by decide) hU2
          · skip
            intro hz2 w2 hU2
            rw [kU_no hz2] at hq
            exact hq.no hz2 hU2
        · skip
          intro hz1 w1 hU1
          rw [kU_no hz1] at hq
          exact hq.no hz1 hU1
      · skip
        have c27 : oPipe R o_ := b2i_n0.mp c27
        rw [cif_t (show oPipe R o_ from c27)] at hq
        obtain ⟨hpk_, hq⟩ := hq.as
        have hpk_ : iN (I 7 o_ 1) < 8 ∧ I 7 o_ 1 = nI (iN (I 7 o_ 1)) := hpk_
        refine x_aload_n 31 dX1_doWrite_30 rfl rfl ?_
        refine x_bipush (v := 6) 33 dX1_doWrite_31 rfl rfl ?_
        refine x_aload_n 34 dX1_doWrite_33 rfl rfl ?_
        refine x_geti 37 dX1_doWrite_34 rfl fl_X1_240 (hT.ks.l7 (by omega)) ?_
        refine x_vi (w := I 7 o_ 1) rfl ?_
        obtain ⟨r_1, hd1⟩ : ∃ r : kO, r = kAccess x.N (I, R, th) me 6 (I 7 o_ 1) 0 0 1 := ⟨_, rfl⟩
        rw [← hd1] at hq
        have hK_1 : KI r_1.2 x.N (mm + 1) := by rw [hd1]; exact hK.access ⟨hpk_.2, kOf6 hpk_.1⟩
        have hS_1 : kSx (I, R, th) r_1.2 := (kSx.rfl (s := (I, R, th))).trans (by rw [hd1]; exact sx_access)
        refine x_callV (as := [.int 6, .int (I 7 o_ 1)]) (rest := []) (i := 0) (n' := n - 1) 40 dX1_doWrite_37 rfl mv_X1_588 rfl rfl (hT.ks.l0 (by omega)) (xnh rfl) (by omega) (xst (Nat.le_of_ble_eq_true rfl)) (c_X1_writes (g := 6) (oa := I 7 o_ 1) hT hK ⟨hpk_.2, kOf6 hpk_.1⟩ (by omega) ((kSx.rfl (s := (I, R, th))).2 0 0 19 rfl |>.trans hme) hme16 (by omega) (kOutN hd1 ⟨?_, ?_⟩))
        · skip
          intro hz1 w1 hU1
          change X _ _ _ _ _ _ _ _ _ _
          rw [kU_ok hz1] at hq
          obtain ⟨p_, hp_⟩ : ∃ p_, p_ = iN (I 7 o_ 1) := ⟨_, rfl⟩
          have hp8 : p_ < 8 := by rw [hp_]; exact hpk_.1
          rw [← hp_] at hq
          have hpe : r_1.2.1 7 o_ 1 = nI p_ := ((hS_1).1 7 o_ 1 rfl).trans (by rw [hp_]; exact hpk_.2)
          have hsz := (hK_1.wf.psz p_).1
          have hsz2 := (hK_1.wf.psz p_).2
          obtain ⟨sz, hszd⟩ : ∃ sz, sz = iN (r_1.2.1 8 p_ 1) := ⟨_, rfl⟩
          rw [← hszd] at hsz hsz2
          unfold kWr1 at hq; rw [← hszd] at hq
          refine x_aload_n 41 dX1_doWrite_40 rfl rfl ?_
          refine x_getz 44 dX1_doWrite_41 rfl fl_X1_33 (hU1.ks.l0 (by omega)) (hU1.ks.z0_7 (by omega)) ?_
          refine x_aload_n 45 dX1_doWrite_44 rfl rfl ?_
          refine x_geti 48 dX1_doWrite_45 rfl fl_X1_240 (hU1.ks.l7 (by omega)) ?_
          refine x_vi (w := r_1.2.1 7 o_ 1) rfl ?_
          refine x_vi (w := nI p_) hpe ?_
          refine x_aldz 49 dX1_doWrite_48 rfl ar_25 rfl (hU1.ks.l25 (by omega)) (xb (hU1.ks.n25 (by omega)) (by omega) (by omega)) (hU1.ks.z25 (by omega)) ?_
          refine x_astore 51 [(1, .ref (x.ad 0 0)), (1, .int (nI d)), (1, .int (nI m)), (1, .ref (x.ad 7 o_)), (1, .ref (x.ad 8 p_))] dX1_doWrite_49 rfl (by decide) rfl ?_
          refine x_aload_n 52 dX1_doWrite_51 rfl rfl ?_
          refine x_aload_n 53 dX1_doWrite_52 rfl rfl ?_
          refine x_geti 56 dX1_doWrite_53 rfl fl_X1_240 (hU1.ks.l7 (by omega)) ?_
          refine x_vi (w := r_1.2.1 7 o_ 1) rfl ?_
          refine x_vi (w := nI p_) hpe ?_
          refine x_iconst (v := 0) 57 dX1_doWrite_56 rfl rfl ?_
          refine x_callV (as := [.int (nI p_), .int 0]) (rest := []) (i := 0) (n' := n - 1) 60 dX1_doWrite_57 rfl mv_X1_633 rfl rfl (hU1.ks.l0 (by omega)) (xnh rfl) (by omega) (xst (Nat.le_of_ble_eq_true rfl)) (c_X1_hasSide (I := kI r_1.2.1 w1.t) (R := kR r_1.2.2.1 w1.u) hU1.ks (hK_1.rf.k (u := w1.u)) (by omega) ?_)
          change X _ _ _ _ _ _ _ _ _ _
          refine x_vi (w := b2i (kHasSide r_1.2.1 r_1.2.2.1 (nI p_) 0)) rfl ?_
          refine x_if_ne 73 63 dX1_doWrite_60 (by decide) rfl (fun c60 => ?_) (fun c60 => ?_)
          · skip
            have c60 : kHasSide r_1.2.1 r_1.2.2.1 (nI p_) 0 := b2i_n0.mp c60
            rw [cif_t (show kHasSide r_1.2.1 r_1.2.2.1 (nI p_) 0 from c60)] at hq
            refine x_aload 75 dX1_doWrite_73 rfl rfl ?_
            refine x_geti 78 dX1_doWrite_75 rfl fl_X1_202 (hU1.ks.l8 (by omega)) ?_
            refine x_vi (w := r_1.2.1 8 p_ 1) rfl ?_
            refine x_vi (w := nI sz) hsz ?_
            refine x_iload_n 79 dX1_doWrite_78 rfl rfl ?_
            refine x_iaddn sz m 80 dX1_doWrite_79 rfl rfl rfl ?_
            refine x_bipush (v := 64) 82 dX1_doWrite_80 rfl rfl ?_
            refine x_icmp_le 95 85 dX1_doWrite_82 (by decide) rfl (fun c82 => ?_) (fun c82 => ?_)
            · skip
              have c82 : sz + m ≤ 64 := (nI_leI (a := sz + m) (b := 64) (by omega) (by omega)).mp c82
              rw [if_neg (by omega)] at hq
              refine x_aload_n 96 dX1_doWrite_95 rfl rfl ?_
              refine x_getz 99 dX1_doWrite_96 rfl fl_X1_57 (hU1.ks.l0 (by omega)) (hU1.ks.z0_11 (by omega)) ?_
              refine x_iconst (v := 0) 100 dX1_doWrite_99 rfl rfl ?_
              refine x_aload 102 dX1_doWrite_100 rfl rfl ?_
              refine x_getz 105 dX1_doWrite_102 rfl fl_X1_642 (hU1.ks.l8 (by omega)) (hU1.ks.z8_0 (by omega)) ?_
              refine x_aload 107 dX1_doWrite_105 rfl rfl ?_
              refine x_geti 110 dX1_doWrite_107 rfl fl_X1_202 (hU1.ks.l8 (by omega)) ?_
              refine x_vi (w := r_1.2.1 8 p_ 1) rfl ?_
              refine x_vi (w := nI sz) hsz ?_
              refine x_iload_n 111 dX1_doWrite_110 rfl rfl ?_
              refine x_copyi (sp := 0) (dp := sz) (m := m) 114 dX1_doWrite_111 rfl cp_X1_148 ar_27 ar_44 (Or.inr ⟨rfl, by decide, by decide⟩) ⟨by decide, fun h => by cases h⟩ (hU1.ks.l27 (by omega)) (hU1.ks.l44 (by omega)) (by decide) (by omega) (xst (Nat.le_of_ble_eq_true rfl)) ⟨by omega, by omega, by omega⟩ (by rw [(hU1.ks.n27 (by omega))]; omega) (by rw [(hU1.ks.n44 (by omega))]; omega) ?_
              refine k_nmA (v := w1) (A1 := xur r_1.2.1 44 p_ (va_cpy (r_1.2.1 27 0) (r_1.2.1 44 p_) 0 sz m)) (kI_xur (c := 44) rfl) fun I1 hI1 => ?_
              refine x_aload 116 dX1_doWrite_114 rfl rfl ?_
              refine x_dup 117 dX1_doWrite_116 rfl rfl ?_
              refine x_geti 120 dX1_doWrite_117 rfl fl_X1_202 (hU1.ks.l8 (by omega)) ?_
              refine x_vi (w := I1 8 p_ 1) rfl ?_
              refine x_vi (w := nI sz) (by rw [hI1, xur_c (by decide)]; exact hsz) ?_
              refine x_iload_n 121 dX1_doWrite_120 rfl rfl ?_
              refine x_iaddn sz m 122 dX1_doWrite_121 rfl rfl rfl ?_
              refine x_puti 125 dX1_doWrite_122 rfl fl_X1_202 rfl rfl (hU1.ks.l8 (by omega)) ?_
              refine k_nmA (v := w1) (kI_xu (c := 8) rfl) fun I2 hI2 => ?_
              refine x_iload_n 126 dX1_doWrite_125 rfl rfl ?_
              refine x_ireturn dX1_doWrite_126 rfl ?_
              rw [hI2, hI1]
              exact hq.ret hU1
            · skip
              have c82 : ¬ (sz + m ≤ 64) := fun h => c82 ((nI_leI (a := sz + m) (b := 64) (by omega) (by omega)).mpr h)
              rw [if_pos (by omega)] at hq
              refine x_aload_n 86 dX1_doWrite_85 rfl rfl ?_
              refine x_getz 89 dX1_doWrite_86 rfl fl_X1_53 (hU1.ks.l0 (by omega)) (hU1.ks.z0_10 (by omega)) ?_
              refine x_bipush (v := -7) 91 dX1_doWrite_89 rfl rfl ?_
              refine x_callV (as := [.int (-7)]) (rest := []) (i := 0) (n' := n - 1) 94 dX1_doWrite_91 rfl mv_X1_364 rfl rfl (hU1.ks.l3 (by omega)) (xnh rfl) (by omega) (xst (Nat.le_of_ble_eq_true rfl)) (c_X4_by hU1.ks (by omega) ?_)
              change X _ _ _ _ _ _ _ _ _ _
              refine k_nmA (v := w1) (A1 := (xu r_1.2.1 3 0 0 ((-7)))) (by (repeat (first | rw [kI_xu] | rw [kI_xur] | rw [kI_xfil])) <;> rfl) fun I1 hI1 => ?_
              refine x_athrow dX1_doWrite_94 (xnh rfl) ?_
              rw [hI1]
              exact hq.thr (by decide) hU1
          · skip
            have c60 : ¬ (kHasSide r_1.2.1 r_1.2.2.1 (nI p_) 0) := b2i_0.mp c60
            rw [cif_f (show ¬ kHasSide r_1.2.1 r_1.2.2.1 (nI p_) 0 from c60)] at hq
            refine x_aload_n 64 dX1_doWrite_63 rfl rfl ?_
            refine x_getz 67 dX1_doWrite_64 rfl fl_X1_53 (hU1.ks.l0 (by omega)) (hU1.ks.z0_10 (by omega)) ?_
            refine x_bipush (v := -10) 69 dX1_doWrite_67 rfl rfl ?_
            refine x_callV (as := [.int (-10)]) (rest := []) (i := 0) (n' := n - 1) 72 dX1_doWrite_69 rfl mv_X1_364 rfl rfl (hU1.ks.l3 (by omega)) (xnh rfl) (by omega) (xst (Nat.le_of_ble_eq_true rfl)) (c_X4_by hU1.ks (by omega) ?_)
            change X _ _ _ _ _ _ _ _ _ _
            refine k_nmA (v := w1) (A1 := (xu r_1.2.1 3 0 0 ((-10)))) (by (repeat (first | rw [kI_xu] | rw [kI_xur] | rw [kI_xfil])) <;> rfl) fun I1 hI1 => ?_
            refine x_athrow dX1_doWrite_72 (xnh rfl) ?_
            rw [hI1]
            exact hq.thr (by decide) hU1
        · skip
          intro hz1 w1 hU1
          rw [kU_no hz1] at hq
          exact hq.no hz1 hU1
    · skip
      rw [if_pos c10] at hq
      refine x_aload_n 14 dX1_doWrite_13 rfl rfl ?_
      refine x_getz 17 dX1_doWrite_14 rfl fl_X1_53 (hT.ks.l0 (by omega)) (hT.ks.z0_10 (by omega)) ?_
      refine x_bipush (v := -5) 19 dX1_doWrite_17 rfl rfl ?_
      refine x_callV (as := [.int (-5)]) (rest := []) (i := 0) (n' := n - 1) 22 dX1_doWrite_19 rfl mv_X1_364 rfl rfl (hT.ks.l3 (by omega)) (xnh rfl) (by omega) (xst (Nat.le_of_ble_eq_true rfl)) (c_X4_by hT.ks (by omega) ?_)
      change X _ _ _ _ _ _ _ _ _ _
      refine k_nmA (v := v) (A1 := (xu I 3 0 0 ((-5)))) (by (repeat (first | rw [kI_xu] | rw [kI_xur] | rw [kI_xfil])) <;> rfl) fun I1 hI1 => ?_
      refine x_athrow dX1_doWrite_22 (xnh rfl) ?_
      rw [hI1]
      exact hq.thr (by decide) hT
  · skip
    intro ho_
    have ho_ : R 46 me d = none := ho_
    try dsimp only at hq
    rw [ho_] at hq
    try dsimp only at hq
    rw [kI_xu (c := 3) rfl]
    exact hq.thr (by decide) hT
