set_option maxRecDepth 100000
theorem xu_over {α : Type} {f : Nat → Nat → Nat → α} {c i k : Nat} {a b : α} : xu (xu f c i k a) c i k b = xu f c i k b := by
  funext c' i' k'; unfold xu; split <;> rfl
theorem xu_same {α : Type} {f : Nat → Nat → Nat → α} {c i k : Nat} {a : α} (h : f c i k = a) : xu f c i k a = f := by
  funext c' i' k'; unfold xu; split
  · next e => rw [e.1, e.2.1, e.2.2, h]
  · rfl
theorem xu_swap {α : Type} {f : Nat → Nat → Nat → α} {c i k c2 i2 k2 : Nat} {a b : α} (h : c ≠ c2) : xu (xu f c i k a) c2 i2 k2 b = xu (xu f c2 i2 k2 b) c i k a := by
  funext c' i' k'; unfold xu
  by_cases e : c' = c ∧ i' = i ∧ k' = k
  · rw [if_neg (fun e2 : c' = c2 ∧ i' = i2 ∧ k' = k2 => h (e.1.symm.trans e2.1)), if_pos e, if_pos e]
  · rw [if_neg e]; split <;> rfl
theorem iBeh_kI {A t : xI} {d : Nat} {l : Option Nat} : ∀ n, iBeh (kI A t) d l n = iBeh A d l n
  | 0 => rfl
  | n + 1 => by
    show iBeh1 (kI A t) d l (iBeh (kI A t) d l n) n = iBeh1 A d l (iBeh A d l n) n
    rw [iBeh_kI n]; rfl
/-- how long the name of a slot is -/
noncomputable def nmLen (A : xI) (d q : Nat) : Nat := (fst0 (fun k => A 43 d (14 * q + k) = 0) 0 14).getD 14
theorem nmLen_e {A : xI} {d q k : Nat} (h8 : k ≤ 14) (hv : ∀ j, j < k → ¬ A 43 d (14 * q + j) = 0) (hk : k = 14 ∨ A 43 d (14 * q + k) = 0) : nmLen A d q = k := by
  unfold nmLen
  by_cases e : k = 14
  · subst e; rw [fst0_none 14 0 (fun j _ hj => hv j (by omega))]; rfl
  · rw [fst0_some 14 0 k (by omega) (by omega) (hk.resolve_left e) (fun j _ hj => hv j hj)]; rfl
theorem nmLen_le {A : xI} {d q : Nat} : nmLen A d q ≤ 14 := by
  unfold nmLen
  cases h : fst0 (fun k => A 43 d (14 * q + k) = 0) 0 14 with
  | none => exact Nat.le_refl _
  | some k => have := (fst0_spec 14 0 k h).2.1; show k ≤ 14; omega
def kLsI (A : xI) (d q os k : Nat) : xI := xu (xfil A 28 0 os (os + k) (fun j => A 43 d (14 * q + (j - os)))) 0 0 14 (nI (os + k))
/-- a name is told -/
noncomputable def kLs1 (A : xI) (d q os : Nat) : xI := xu (xu (kLsI A d q os (nmLen A d q)) 0 0 14 (nI (os + nmLen A d q + 1))) 28 0 (os + nmLen A d q) 0
noncomputable def kLsL (d : Nat) : Nat → xI → Option Nat → Nat → Nat → Option (xI × Nat)
  | u, A, l, n, os => match iBeh A d l 512 with
    | none => some (A, n)
    | some q => match u with
      | 0 => none
      | u + 1 => if os + 15 ≤ 8192 then kLsL d u (kLs1 A d q os) (some q) (n + 1) (os + nmLen A d q + 1) else none
def kLsK (s : kK) (r : Option (xI × Nat)) : kQ := match r with
  | none => ((99, s), 0)
  | some (A, n) => kRt (A, s.2.1, s.2.2) (nI n)
noncomputable def kDoList (N : Nat) (s : kK) (me : Nat) (tp : Nat → Int32) (fr lg : Nat → Nat) (st : Nat) : kQ :=
  kB (kFnd N s me 0 tp fr lg st) fun s d => cif (iDir s.1 d) (kU (kAccess N s me 3 (nI d) 0 0 0) fun s => kLsK s (kLsL d 512 (xu s.1 0 0 14 0) none 0 0)) (kRf s (-4))
theorem kLsL_n {d u n os : Nat} {A : xI} {l : Option Nat} (h : iBeh A d l 512 = none) : kLsL d u A l n os = some (A, n) := by unfold kLsL; rw [h]
theorem kLsL_0 {d n os q : Nat} {A : xI} {l : Option Nat} (h : iBeh A d l 512 = some q) : kLsL d 0 A l n os = none := by unfold kLsL; rw [h]
theorem kLsL_s {d u n os q : Nat} {A : xI} {l : Option Nat} (h : iBeh A d l 512 = some q) : kLsL d (u + 1) A l n os = if os + 15 ≤ 8192 then kLsL d u (kLs1 A d q os) (some q) (n + 1) (os + nmLen A d q + 1) else none := by
  rw [kLsL.eq_def]; dsimp only; rw [h]
theorem dX1_doList_0 : decode cX1_doList 0 = .ok (.aload_n 0, 1) := by decide +kernel
theorem dX1_doList_1 : decode cX1_doList 1 = .ok (.getfield 76, 3) := by decide +kernel
theorem dX1_doList_4 : decode cX1_doList 4 = .ok (.invokevirtual 573, 3) := by decide +kernel
theorem dX1_doList_7 : decode cX1_doList 7 = .ok (.astore_n 1, 1) := by decide +kernel
theorem dX1_doList_8 : decode cX1_doList 8 = .ok (.aload_n 1, 1) := by decide +kernel
theorem dX1_doList_9 : decode cX1_doList 9 = .ok (.invokevirtual 403, 3) := by decide +kernel
theorem dX1_doList_12 : decode cX1_doList 12 = .ok (.ifCond .ne 13, 3) := by decide +kernel
theorem dX1_doList_15 : decode cX1_doList 15 = .ok (.aload_n 0, 1) := by decide +kernel
theorem dX1_doList_16 : decode cX1_doList 16 = .ok (.getfield 53, 3) := by decide +kernel
theorem dX1_doList_19 : decode cX1_doList 19 = .ok (.bipush (-4), 2) := by decide +kernel
theorem dX1_doList_21 : decode cX1_doList 21 = .ok (.invokevirtual 364, 3) := by decide +kernel
theorem dX1_doList_24 : decode cX1_doList 24 = .ok (.athrow, 1) := by decide +kernel
theorem dX1_doList_25 : decode cX1_doList 25 = .ok (.aload_n 0, 1) := by decide +kernel
theorem dX1_doList_26 : decode cX1_doList 26 = .ok (.iconst 3, 1) := by decide +kernel
theorem dX1_doList_27 : decode cX1_doList 27 = .ok (.aload_n 1, 1) := by decide +kernel
theorem dX1_doList_28 : decode cX1_doList 28 = .ok (.getfield 448, 3) := by decide +kernel
theorem dX1_doList_31 : decode cX1_doList 31 = .ok (.invokevirtual 650, 3) := by decide +kernel
theorem dX1_doList_34 : decode cX1_doList 34 = .ok (.aload_n 0, 1) := by decide +kernel
theorem dX1_doList_35 : decode cX1_doList 35 = .ok (.iconst 0, 1) := by decide +kernel
theorem dX1_doList_36 : decode cX1_doList 36 = .ok (.putfield 639, 3) := by decide +kernel
theorem dX1_doList_39 : decode cX1_doList 39 = .ok (.iconst 0, 1) := by decide +kernel
theorem dX1_doList_40 : decode cX1_doList 40 = .ok (.istore_n 2, 1) := by decide +kernel
theorem dX1_doList_41 : decode cX1_doList 41 = .ok (.iconst (-1), 1) := by decide +kernel
theorem dX1_doList_42 : decode cX1_doList 42 = .ok (.istore_n 3, 1) := by decide +kernel
theorem dX1_doList_43 : decode cX1_doList 43 = .ok (.aload_n 0, 1) := by decide +kernel
theorem dX1_doList_44 : decode cX1_doList 44 = .ok (.aload_n 1, 1) := by decide +kernel
theorem dX1_doList_45 : decode cX1_doList 45 = .ok (.iload_n 3, 1) := by decide +kernel
theorem dX1_doList_46 : decode cX1_doList 46 = .ok (.invokevirtual 692, 3) := by decide +kernel
theorem dX1_doList_49 : decode cX1_doList 49 = .ok (.istore 4, 2) := by decide +kernel
theorem dX1_doList_51 : decode cX1_doList 51 = .ok (.iload 4, 2) := by decide +kernel
theorem dX1_doList_53 : decode cX1_doList 53 = .ok (.iconst (-1), 1) := by decide +kernel
theorem dX1_doList_54 : decode cX1_doList 54 = .ok (.if_icmp .eq 98, 3) := by decide +kernel
theorem dX1_doList_57 : decode cX1_doList 57 = .ok (.iconst 0, 1) := by decide +kernel
theorem dX1_doList_58 : decode cX1_doList 58 = .ok (.istore 5, 2) := by decide +kernel
theorem dX1_doList_60 : decode cX1_doList 60 = .ok (.iload 5, 2) := by decide +kernel
theorem dX1_doList_62 : decode cX1_doList 62 = .ok (.bipush 14, 2) := by decide +kernel
theorem dX1_doList_64 : decode cX1_doList 64 = .ok (.if_icmp .ge 54, 3) := by decide +kernel
theorem dX1_doList_67 : decode cX1_doList 67 = .ok (.aload_n 1, 1) := by decide +kernel
theorem dX1_doList_68 : decode cX1_doList 68 = .ok (.getfield 457, 3) := by decide +kernel
theorem dX1_doList_71 : decode cX1_doList 71 = .ok (.bipush 14, 2) := by decide +kernel
theorem dX1_doList_73 : decode cX1_doList 73 = .ok (.iload 4, 2) := by decide +kernel
theorem dX1_doList_75 : decode cX1_doList 75 = .ok (.imul, 1) := by decide +kernel
theorem dX1_doList_76 : decode cX1_doList 76 = .ok (.iload 5, 2) := by decide +kernel
theorem dX1_doList_78 : decode cX1_doList 78 = .ok (.iadd, 1) := by decide +kernel
theorem dX1_doList_79 : decode cX1_doList 79 = .ok (.baload, 1) := by decide +kernel
theorem dX1_doList_80 : decode cX1_doList 80 = .ok (.ifCond .eq 38, 3) := by decide +kernel
theorem dX1_doList_83 : decode cX1_doList 83 = .ok (.aload_n 0, 1) := by decide +kernel
theorem dX1_doList_84 : decode cX1_doList 84 = .ok (.getfield 61, 3) := by decide +kernel
theorem dX1_doList_87 : decode cX1_doList 87 = .ok (.aload_n 0, 1) := by decide +kernel
theorem dX1_doList_88 : decode cX1_doList 88 = .ok (.dup, 1) := by decide +kernel
theorem dX1_doList_89 : decode cX1_doList 89 = .ok (.getfield 639, 3) := by decide +kernel
theorem dX1_doList_92 : decode cX1_doList 92 = .ok (.dup_x1, 1) := by decide +kernel
theorem dX1_doList_93 : decode cX1_doList 93 = .ok (.iconst 1, 1) := by decide +kernel
theorem dX1_doList_94 : decode cX1_doList 94 = .ok (.iadd, 1) := by decide +kernel
theorem dX1_doList_95 : decode cX1_doList 95 = .ok (.putfield 639, 3) := by decide +kernel
theorem dX1_doList_98 : decode cX1_doList 98 = .ok (.aload_n 1, 1) := by decide +kernel
theorem dX1_doList_99 : decode cX1_doList 99 = .ok (.getfield 457, 3) := by decide +kernel
theorem dX1_doList_102 : decode cX1_doList 102 = .ok (.bipush 14, 2) := by decide +kernel
theorem dX1_doList_104 : decode cX1_doList 104 = .ok (.iload 4, 2) := by decide +kernel
theorem dX1_doList_106 : decode cX1_doList 106 = .ok (.imul, 1) := by decide +kernel
theorem dX1_doList_107 : decode cX1_doList 107 = .ok (.iload 5, 2) := by decide +kernel
theorem dX1_doList_109 : decode cX1_doList 109 = .ok (.iadd, 1) := by decide +kernel
theorem dX1_doList_110 : decode cX1_doList 110 = .ok (.baload, 1) := by decide +kernel
theorem dX1_doList_111 : decode cX1_doList 111 = .ok (.bastore, 1) := by decide +kernel
theorem dX1_doList_112 : decode cX1_doList 112 = .ok (.iinc 5 1, 3) := by decide +kernel
theorem dX1_doList_115 : decode cX1_doList 115 = .ok (.goto (-55), 3) := by decide +kernel
theorem dX1_doList_118 : decode cX1_doList 118 = .ok (.aload_n 0, 1) := by decide +kernel
theorem dX1_doList_119 : decode cX1_doList 119 = .ok (.getfield 61, 3) := by decide +kernel
theorem dX1_doList_122 : decode cX1_doList 122 = .ok (.aload_n 0, 1) := by decide +kernel
theorem dX1_doList_123 : decode cX1_doList 123 = .ok (.dup, 1) := by decide +kernel
theorem dX1_doList_124 : decode cX1_doList 124 = .ok (.getfield 639, 3) := by decide +kernel
theorem dX1_doList_127 : decode cX1_doList 127 = .ok (.dup_x1, 1) := by decide +kernel
theorem dX1_doList_128 : decode cX1_doList 128 = .ok (.iconst 1, 1) := by decide +kernel
theorem dX1_doList_129 : decode cX1_doList 129 = .ok (.iadd, 1) := by decide +kernel
theorem dX1_doList_130 : decode cX1_doList 130 = .ok (.putfield 639, 3) := by decide +kernel
theorem dX1_doList_133 : decode cX1_doList 133 = .ok (.iconst 0, 1) := by decide +kernel
theorem dX1_doList_134 : decode cX1_doList 134 = .ok (.bastore, 1) := by decide +kernel
theorem dX1_doList_135 : decode cX1_doList 135 = .ok (.iload 4, 2) := by decide +kernel
theorem dX1_doList_137 : decode cX1_doList 137 = .ok (.istore_n 3, 1) := by decide +kernel
theorem dX1_doList_138 : decode cX1_doList 138 = .ok (.iinc 2 1, 3) := by decide +kernel
theorem dX1_doList_141 : decode cX1_doList 141 = .ok (.aload_n 0, 1) := by decide +kernel
theorem dX1_doList_142 : decode cX1_doList 142 = .ok (.aload_n 1, 1) := by decide +kernel
theorem dX1_doList_143 : decode cX1_doList 143 = .ok (.iload_n 3, 1) := by decide +kernel
theorem dX1_doList_144 : decode cX1_doList 144 = .ok (.invokevirtual 692, 3) := by decide +kernel
theorem dX1_doList_147 : decode cX1_doList 147 = .ok (.istore 4, 2) := by decide +kernel
theorem dX1_doList_149 : decode cX1_doList 149 = .ok (.goto (-98), 3) := by decide +kernel
theorem dX1_doList_152 : decode cX1_doList 152 = .ok (.iload_n 2, 1) := by decide +kernel
theorem dX1_doList_153 : decode cX1_doList 153 = .ok (.ireturn, 1) := by decide +kernel
set_option maxHeartbeats 400000 in
set_option maxRecDepth 100000 in
theorem i_X1_doList {G : xG} {n a b : Nat} {Q : Outcome → xS → Prop} {x : kX} {I0 : xI} {R : xR} {v : kV} {th : List xTh} (hT : KT x v th) {d c q os : Nat} {l : Option Nat} (hdN : d < x.N) (hq5 : q < 512) (hos15 : os + 15 ≤ 8192) (hx : X G mX1_doList n a b Q (kS (kLsI I0 d q os (nmLen I0 d q)) R x v) 118 [(1, .ref (x.ad 0 0)), (1, .ref (x.ad 6 d)), (1, .int (nI c)), (1, .int (oI l)), (1, .int (nI q)), xo] []) (k : Nat) (I : xI) (hn : 1 ≤ n) :
    (k ≤ 14) → (∀ j, j < k → ¬ I0 43 d (14 * q + j) = 0) → (I = kLsI I0 d q os k) → X G mX1_doList n a b Q (kS I R x v) 60 [(1, .ref (x.ad 0 0)), (1, .ref (x.ad 6 d)), (1, .int (nI c)), (1, .int (oI l)), (1, .int (nI q)), (1, .int (nI k))] [] := by
  induction hm : 14 - k using Nat.strongRecOn generalizing k I with
  | _ m_ ih =>
    intro h8 hv hI
    have hnb := hT.ks.nb
    refine x_iload 62 dX1_doList_60 rfl rfl ?_
    refine x_bipush (v := 14) 64 dX1_doList_62 rfl rfl ?_
    refine x_icmp_ge 118 67 dX1_doList_64 (by decide) rfl (fun c64 => ?_) (fun c64 => ?_)
    · skip
      have c64 : 14 ≤ k := (nI_leI (a := 14) (b := k) (by omega) (by omega)).mp c64
      refine x_fgt [(1, .ref (x.ad 0 0)), (1, .ref (x.ad 6 d)), (1, .int (nI c)), (1, .int (oI l)), (1, .int (nI q)), xo] ⟨Or.inr rfl, Or.inr rfl, Or.inr rfl, Or.inr rfl, Or.inr rfl, Or.inl rfl, trivial⟩ ?_
      have e43 : ∀ j, I 43 d j = I0 43 d j := fun j => by rw [hI]; unfold kLsI; rw [xu_c (by decide), xfil_c (by decide)]
      have e_ := nmLen_e (A := I0) (d := d) (q := q) h8 hv (Or.inl (by omega))
      rw [e_] at hx
      rw [hI]; exact hx
    · skip
      have c64 : ¬ (14 ≤ k) := fun h => c64 ((nI_leI (a := 14) (b := k) (by omega) (by omega)).mpr h)
      refine x_aload_n 68 dX1_doList_67 rfl rfl ?_
      refine x_getz 71 dX1_doList_68 rfl fl_X1_457 (hT.ks.l6 (by omega)) (hT.ks.z6_29 (by omega)) ?_
      refine x_bipush (v := 14) 73 dX1_doList_71 rfl rfl ?_
      refine x_iload 75 dX1_doList_73 rfl rfl ?_
      refine x_imuln 14 q 76 dX1_doList_75 rfl rfl rfl ?_
      refine x_iload 78 dX1_doList_76 rfl rfl ?_
      refine x_iaddn (14 * q) k 79 dX1_doList_78 rfl rfl rfl ?_
      refine x_bald 80 dX1_doList_79 rfl ar_43 (hT.ks.l43 (by omega)) (xb (hT.ks.n43 (by omega)) (by omega) (by omega)) ?_
      refine x_vi (w := I 43 d ((14 * q) + k)) rfl ?_
      refine x_if_eq 118 83 dX1_doList_80 (by decide) rfl (fun c80 => ?_) (fun c80 => ?_)
      · skip
        refine x_fgt [(1, .ref (x.ad 0 0)), (1, .ref (x.ad 6 d)), (1, .int (nI c)), (1, .int (oI l)), (1, .int (nI q)), xo] ⟨Or.inr rfl, Or.inr rfl, Or.inr rfl, Or.inr rfl, Or.inr rfl, Or.inl rfl, trivial⟩ ?_
        have e43 : ∀ j, I 43 d j = I0 43 d j := fun j => by rw [hI]; unfold kLsI; rw [xu_c (by decide), xfil_c (by decide)]
        have e_ := nmLen_e (A := I0) (d := d) (q := q) h8 hv (Or.inr ((e43 _).symm.trans c80))
        rw [e_] at hx
        rw [hI]; exact hx
      · skip
        have e43 : ∀ j, I 43 d j = I0 43 d j := fun j => by rw [hI]; unfold kLsI; rw [xu_c (by decide), xfil_c (by decide)]
        have hc80 : ¬ I0 43 d (14 * q + k) = 0 := fun h => c80 ((e43 _).trans h)
        have hos : I 0 0 14 = nI (os + k) := by rw [hI]; exact xu_eq
        refine x_aload_n 84 dX1_doList_83 rfl rfl ?_
        refine x_getz 87 dX1_doList_84 rfl fl_X1_61 (hT.ks.l0 (by omega)) (hT.ks.z0_13 (by omega)) ?_
        refine x_aload_n 88 dX1_doList_87 rfl rfl ?_
        refine x_dup 89 dX1_doList_88 rfl rfl ?_
        refine x_geti 92 dX1_doList_89 rfl fl_X1_639 (hT.ks.l0 (by omega)) ?_
        refine x_vi (w := I 0 0 14) rfl ?_
        refine x_vi (w := nI (os + k)) hos ?_
        refine x_dup_x1 93 dX1_doList_92 rfl rfl rfl ?_
        refine x_iconst (v := 1) 94 dX1_doList_93 rfl rfl ?_
        refine x_iaddn (os + k) 1 95 dX1_doList_94 rfl rfl rfl ?_
        refine x_puti 98 dX1_doList_95 rfl fl_X1_639 rfl rfl (hT.ks.l0 (by omega)) ?_
        refine k_nmA (v := v) (kI_xu (c := 0) rfl) fun I1 hI1 => ?_
        refine x_aload_n 99 dX1_doList_98 rfl rfl ?_
        refine x_getz 102 dX1_doList_99 rfl fl_X1_457 (hT.ks.l6 (by omega)) (hT.ks.z6_29 (by omega)) ?_
        refine x_bipush (v := 14) 104 dX1_doList_102 rfl rfl ?_
        refine x_iload 106 dX1_doList_104 rfl rfl ?_
        refine x_imuln 14 q 107 dX1_doList_106 rfl rfl rfl ?_
        refine x_iload 109 dX1_doList_107 rfl rfl ?_
        refine x_iaddn (14 * q) k 110 dX1_doList_109 rfl rfl rfl ?_
        refine x_bald 111 dX1_doList_110 rfl ar_43 (hT.ks.l43 (by omega)) (xb (hT.ks.n43 (by omega)) (by omega) (by omega)) ?_
        refine x_vi (w := I1 43 d ((14 * q) + k)) rfl ?_
        refine x_wf fun hwf => ?_
        have hb : fits .byte (.int (I1 43 d (14 * q + k))) = true := (hwf.2.2 43 d (14 * q + k) (hT.ks.l43 hdN) (by decide) (by rw [hT.ks.n43 hdN]; omega)).1 (by decide)
        have e143 : I1 43 d (14 * q + k) = I0 43 d (14 * q + k) := by rw [hI1, xu_c (by decide)]; exact e43 _
        have hl43 : I0 43 d (14 * q + k) = (I1 43 d (14 * q + k)).toInt8.toInt32 := by rw [x_b8 hb, e143]
        refine x_bast 112 dX1_doList_111 rfl ar_28 (by decide) (by decide) (hT.ks.l28 (by omega)) (xb (hT.ks.n28 (by omega)) (by omega) (by omega)) ?_
        refine k_nmA (v := v) (kI_xu (c := 28) rfl) fun I2 hI2 => ?_
        refine x_iinc 115 [(1, .ref (x.ad 0 0)), (1, .ref (x.ad 6 d)), (1, .int (nI c)), (1, .int (oI l)), (1, .int (nI q)), (1, .int (nI (k + 1)))] dX1_doList_112 rfl (by decide) rfl (xi_1 k) rfl ?_
        refine x_goto 60 dX1_doList_115 (by decide) ?_
        rw [← hl43] at hI2
        exact ih _ (by rw [← hm]; omega) (k + 1) I2 rfl (by omega) (lt_succ_of (P := fun j => ¬ I0 43 d (14 * q + j) = 0) hv hc80) (by rw [hI2, hI1, hI]; unfold kLsI; rw [xu_over, xu_swap (by decide), show os + (k + 1) = os + k + 1 by omega]; rw [xfil_step (g := fun j => I0 43 d (14 * q + (j - os))) (by omega) (by show I0 43 d (14 * q + (os + k - os)) = _; rw [show os + k - os = k by omega])])
set_option maxHeartbeats 4000000 in
set_option maxRecDepth 100000 in
theorem l_X1_doList {G : xG} {n a b : Nat} {Q : Outcome → xS → Prop} {x : kX} {s : kK} {v : kV} (hT : KT x v s.2.2) {d : Nat} (hdN : d < x.N) (hn : 3 ≤ n) : ∀ (u : Nat) {I : xI} {c os : Nat} {l : Option Nat}, (∀ m, l = some m → m < 512) → I 0 0 14 = nI os → os ≤ 8192 → kOs Q x (kLsK s (kLsL d u I l c os)) → X G mX1_doList n a b Q (kS I s.2.1 x v) 51 [(1, .ref (x.ad 0 0)), (1, .ref (x.ad 6 d)), (1, .int (nI c)), (1, .int (oI l)), (1, .int (oI (iBeh I d l 512))), xo] [] := by
  intro u
  induction u with
  | zero =>
    intro I c os l hl hos hos8 hq
    have hnb := hT.ks.nb
    rcases hnx : iBeh I d l 512 with _ | q
    · rw [kLsL_n hnx] at hq
      refine x_iload 53 dX1_doList_51 rfl rfl ?_
      refine x_iconst (v := -1) 54 dX1_doList_53 rfl rfl ?_
      refine x_icmp_eq 152 57 dX1_doList_54 (by decide) rfl (fun c54 => ?_) (fun c54 => ?_)
      · skip
        refine x_iload_n 153 dX1_doList_152 rfl rfl ?_
        refine x_ireturn dX1_doList_153 rfl ?_
        exact hq.ret3 hT
      · skip
        exfalso; revert c54; decide
    · rw [kLsL_0 hnx] at hq
      exact absurd rfl hq.1
  | succ u ih =>
    intro I c os l hl hos hos8 hq
    have hnb := hT.ks.nb
    rcases hnx : iBeh I d l 512 with _ | q
    · rw [kLsL_n hnx] at hq
      refine x_iload 53 dX1_doList_51 rfl rfl ?_
      refine x_iconst (v := -1) 54 dX1_doList_53 rfl rfl ?_
      refine x_icmp_eq 152 57 dX1_doList_54 (by decide) rfl (fun c54 => ?_) (fun c54 => ?_)
      · skip
        refine x_iload_n 153 dX1_doList_152 rfl rfl ?_
        refine x_ireturn dX1_doList_153 rfl ?_
        exact hq.ret3 hT
      · skip
        exfalso; revert c54; decide
    · rw [kLsL_s hnx] at hq
      have hq5 := iBeh_lt 512 q hnx
      have h15 : os + 15 ≤ 8192 := Classical.byContradiction (fun h => by rw [if_neg h] at hq; exact absurd rfl hq.1)
      rw [if_pos h15] at hq
      refine x_iload 53 dX1_doList_51 rfl rfl ?_
      refine x_iconst (v := -1) 54 dX1_doList_53 rfl rfl ?_
      refine x_icmp_eq 152 57 dX1_doList_54 (by decide) rfl (fun c54 => ?_) (fun c54 => ?_)
      · skip
        exact absurd c54 (nI_m1 (by omega))
      · skip
        refine x_iconst (v := 0) 58 dX1_doList_57 rfl rfl ?_
        refine x_istore 60 [(1, .ref (x.ad 0 0)), (1, .ref (x.ad 6 d)), (1, .int (nI c)), (1, .int (oI l)), (1, .int (nI q)), (1, .int 0)] dX1_doList_58 rfl (by decide) rfl ?_
        refine i_X1_doList (I0 := I) hT hdN hq5 h15 ?_ 0 I (by omega) (by omega) (fun j hj => absurd hj (by omega)) (by unfold kLsI; rw [show os + 0 = os from rfl, xfil_0]; exact (xu_same hos).symm)
        have hnl := nmLen_le (A := I) (d := d) (q := q)
        obtain ⟨len, hlen⟩ : ∃ len, len = nmLen I d q := ⟨_, rfl⟩
        rw [← hlen] at hnl hq ⊢
        refine x_aload_n 119 dX1_doList_118 rfl rfl ?_
        refine x_getz 122 dX1_doList_119 rfl fl_X1_61 (hT.ks.l0 (by omega)) (hT.ks.z0_13 (by omega)) ?_
        refine x_aload_n 123 dX1_doList_122 rfl rfl ?_
        refine x_dup 124 dX1_doList_123 rfl rfl ?_
        refine x_geti 127 dX1_doList_124 rfl fl_X1_639 (hT.ks.l0 (by omega)) ?_
        refine x_vi (w := (kLsI I d q os len) 0 0 14) rfl ?_
        refine x_vi (w := nI (os + len)) (by show kLsI I d q os len 0 0 14 = _; exact xu_eq) ?_
        refine x_dup_x1 128 dX1_doList_127 rfl rfl rfl ?_
        refine x_iconst (v := 1) 129 dX1_doList_128 rfl rfl ?_
        refine x_iaddn (os + len) 1 130 dX1_doList_129 rfl rfl rfl ?_
        refine x_puti 133 dX1_doList_130 rfl fl_X1_639 rfl rfl (hT.ks.l0 (by omega)) ?_
        refine k_nmA (v := v) (kI_xu (c := 0) rfl) fun I1 hI1 => ?_
        refine x_iconst (v := 0) 134 dX1_doList_133 rfl rfl ?_
        refine x_bast 135 dX1_doList_134 rfl ar_28 (by decide) (by decide) (hT.ks.l28 (by omega)) (xb (hT.ks.n28 (by omega)) (by omega) (by omega)) ?_
        refine k_nmA (v := v) (kI_xu (c := 28) rfl) fun I2 hI2 => ?_
        refine x_iload 137 dX1_doList_135 rfl rfl ?_
        refine x_istore_n 138 [(1, .ref (x.ad 0 0)), (1, .ref (x.ad 6 d)), (1, .int (nI c)), (1, .int (nI q)), (1, .int (nI q)), xo] dX1_doList_137 rfl (by decide) rfl ?_
        refine x_iinc 141 [(1, .ref (x.ad 0 0)), (1, .ref (x.ad 6 d)), (1, .int (nI (c + 1))), (1, .int (nI q)), (1, .int (nI q)), xo] dX1_doList_138 rfl (by decide) rfl (xi_1 c) rfl ?_
        have eL : I2 = kLs1 I d q os := by rw [hI2, hI1]; unfold kLs1; rw [← hlen]; rfl
        refine x_aload_n 142 dX1_doList_141 rfl rfl ?_
        refine x_aload_n 143 dX1_doList_142 rfl rfl ?_
        refine x_iload_n 144 dX1_doList_143 rfl rfl ?_
        refine x_callV (as := [.ref (x.ad 6 d), .int (nI q)]) (rest := []) (i := 0) (n' := n - 1) 147 dX1_doList_144 rfl mv_X1_692 rfl rfl (hT.ks.l0 (by omega)) (xnh rfl) (by omega) (xst (Nat.le_of_ble_eq_true rfl)) (c_X1_behind (I := kI I2 v.t) (l := (some q)) hT.ks (by omega) (fun m e => by cases e; omega) (by omega) ?_)
        change X _ _ _ _ _ _ _ _ _ _
        refine x_vi (w := oI (iBeh I2 d (some q) 512)) (congrArg oI (iBeh_kI 512)) ?_
        refine x_nmi fun x1 hx1 => ?_
        refine x_istore 149 [(1, .ref (x.ad 0 0)), (1, .ref (x.ad 6 d)), (1, .int (nI (c + 1))), (1, .int (nI q)), (1, .int x1), xo] dX1_doList_147 rfl (by decide) rfl ?_
        refine x_goto 51 dX1_doList_149 (by decide) ?_
        have e0 : I2 0 0 14 = nI (os + len + 1) := by rw [hI2, xu_c (by decide), hI1]; exact xu_eq
        subst hx1
        rw [← eL] at hq
        exact ih (l := some q) (fun m e => by cases e; exact hq5) e0 (by omega) hq
set_option maxHeartbeats 400000 in
set_option maxRecDepth 100000 in
theorem c_X1_doList {G : xG} {n : Nat} {Q : Outcome → xS → Prop} {x : kX} {I : xI} {R : xR} {v : kV} {th : List xTh} {mm : Nat} (hT : KT x v th) (hK : KI (I, R, th) x.N mm) {st : Nat} {fr lg : Nat → Nat} (hp : PS I 0 st fr lg) {tp : Nat → Int32} (htp : I 27 0 = tp) (hmm : mm + 100 < 16384) {me : Nat} (hme : R 0 0 19 = some me) (hme16 : me < 16) (hn : 14 ≤ n) (hq : kOs Q x (kDoList x.N (I, R, th) me tp fr lg st)) : xCall G mX1_doList n [.ref (x.ad 0 0)] (kS I R x v) Q := by
  refine x_met (L0 := [(1, .ref (x.ad 0 0)), xo, xo, xo, xo, xo]) (by decide +kernel) rfl ⟨Nat.le_of_ble_eq_true rfl, rfl⟩ ?_
  have hnb := hT.ks.nb
  unfold kDoList at hq
  have hp12 := hp.2.1
  refine x_aload_n 1 dX1_doList_0 rfl rfl ?_
  refine x_getz 4 dX1_doList_1 rfl fl_X1_76 (hT.ks.l0 (by omega)) (hT.ks.z0_23 (by omega)) ?_
  try unfold kFnd at hq
  obtain ⟨hw_1, hq⟩ := hq.asB
  have hwk_1 := kWk_some hw_1
  have hwN_1 := hK.rf.wk hwk_1
  obtain ⟨r_1, hd1⟩ : ∃ r : kO × Nat, r = kWalk x.N (I, R, th) me tp fr lg (kBeg ((I, R, th)).1 0 (kWk (I, R, th) me)) st := ⟨_, rfl⟩
  rw [← hd1] at hq
  have hKS_1 := KI.walk (me := me) (tp := tp) (fr := fr) (lg := lg) hK (d := (kBeg ((I, R, th)).1 0 (kWk (I, R, th) me))) (kBeg_lt hwN_1) (by omega) st
  rw [← hd1] at hKS_1
  obtain ⟨hKa_1, hSa_1, hdN_1⟩ := hKS_1
  have hK_1 := hKa_1.le (m' := mm + 12) (by omega)
  have hS_1 := (kSx.rfl (s := (I, R, th))).trans hSa_1
  refine x_callV (as := []) (rest := []) (i := 0) (n' := n - 1) 7 dX1_doList_4 rfl mv_X1_573 rfl rfl (hT.ks.l4 (by omega)) (xnh rfl) (by omega) (xst (Nat.le_of_ble_eq_true rfl)) (c_X5_find (i := 0) (fr := fr) (lg := lg) hT hK (by omega) (hp.fx (kSx.rfl (s := (I, R, th))).1) (tp_fx htp (kSx.rfl (s := (I, R, th))).1) (by omega) ((kSx.rfl (s := (I, R, th))).2 0 0 19 rfl |>.trans hme) hme16 hwk_1 hwN_1 (by omega) (kOutP hd1 ⟨?_, ?_⟩))
  · skip
    intro hz1 w1 hU1
    change X _ _ _ _ _ _ _ _ _ _
    rw [kB_ok hz1] at hq
    refine x_astore_n 8 [(1, .ref (x.ad 0 0)), (1, .ref (x.ad 6 r_1.2)), xo, xo, xo, xo] dX1_doList_7 rfl (by decide) rfl ?_
    refine x_aload_n 9 dX1_doList_8 rfl rfl ?_
    refine x_callV (as := []) (rest := []) (i := r_1.2) (n' := n - 1) 12 dX1_doList_9 rfl mv_X1_403 rfl rfl (hU1.ks.l6 (by omega)) (xnh rfl) (by omega) (xst (Nat.le_of_ble_eq_true rfl)) (c_X7_isDirectory hU1.ks (by omega) (by omega) ?_)
    change X _ _ _ _ _ _ _ _ _ _
    refine x_vi (w := b2i (iDir r_1.1.2.1 r_1.2)) rfl ?_
    refine x_if_ne 25 15 dX1_doList_12 (by decide) rfl (fun c12 => ?_) (fun c12 => ?_)
    · skip
      have c12 : iDir r_1.1.2.1 r_1.2 := b2i_n0.mp c12
      rw [cif_t c12] at hq
      refine x_aload_n 26 dX1_doList_25 rfl rfl ?_
      refine x_iconst (v := 3) 27 dX1_doList_26 rfl rfl ?_
      refine x_aload_n 28 dX1_doList_27 rfl rfl ?_
      refine x_geti 31 dX1_doList_28 rfl fl_X1_448 (hU1.ks.l6 (by omega)) ?_
      refine x_vi (w := r_1.1.2.1 6 r_1.2 0) rfl ?_
      refine x_vi (w := nI r_1.2) (hK_1.nm.1 r_1.2 (by omega)) ?_
      obtain ⟨r_2, hd2⟩ : ∃ r : kO, r = kAccess x.N r_1.1.2 me 3 (nI r_1.2) 0 0 0 := ⟨_, rfl⟩
      rw [← hd2] at hq
      have hK_2 : KI r_2.2 x.N ((mm + 12) + 1) := by rw [hd2]; exact hK_1.access (hoaN (g := 3) (by omega) kOf3)
      have hS_2 : kSx (I, R, th) r_2.2 := (hS_1).trans (by rw [hd2]; exact sx_access)
      refine x_callV (as := [.int 3, .int (nI r_1.2)]) (rest := []) (i := 0) (n' := n - 1) 34 dX1_doList_31 rfl mv_X1_650 rfl rfl (hU1.ks.l0 (by omega)) (xnh rfl) (by omega) (xst (Nat.le_of_ble_eq_true rfl)) (c_X1_reads (g := 3) (oa := nI r_1.2) hU1 hK_1 (hoaN (g := 3) (by omega) kOf3) (by omega) ((hS_1).2 0 0 19 rfl |>.trans hme) hme16 (by omega) (kOutN hd2 ⟨?_, ?_⟩))
      · skip
        intro hz2 w2 hU2
        change X _ _ _ _ _ _ _ _ _ _
        rw [kU_ok hz2] at hq
        refine x_aload_n 35 dX1_doList_34 rfl rfl ?_
        refine x_iconst (v := 0) 36 dX1_doList_35 rfl rfl ?_
        refine x_puti 39 dX1_doList_36 rfl fl_X1_639 rfl rfl (hU2.ks.l0 (by omega)) ?_
        refine k_nmA (v := w2) (kI_xu (c := 0) rfl) fun I1 hI1 => ?_
        refine x_iconst (v := 0) 40 dX1_doList_39 rfl rfl ?_
        refine x_istore_n 41 [(1, .ref (x.ad 0 0)), (1, .ref (x.ad 6 r_1.2)), (1, .int 0), xo, xo, xo] dX1_doList_40 rfl (by decide) rfl ?_
        refine x_iconst (v := -1) 42 dX1_doList_41 rfl rfl ?_
        refine x_istore_n 43 [(1, .ref (x.ad 0 0)), (1, .ref (x.ad 6 r_1.2)), (1, .int 0), (1, .int (-1)), xo, xo] dX1_doList_42 rfl (by decide) rfl ?_
        refine x_aload_n 44 dX1_doList_43 rfl rfl ?_
        refine x_aload_n 45 dX1_doList_44 rfl rfl ?_
        refine x_iload_n 46 dX1_doList_45 rfl rfl ?_
        refine x_callV (as := [.ref (x.ad 6 r_1.2), .int (-1)]) (rest := []) (i := 0) (n' := n - 1) 49 dX1_doList_46 rfl mv_X1_692 rfl rfl (hU2.ks.l0 (by omega)) (xnh rfl) (by omega) (xst (Nat.le_of_ble_eq_true rfl)) (c_X1_behind (I := kI I1 w2.t) (l := none) hU2.ks (by omega) (fun m e => by cases e) (by omega) ?_)
        change X _ _ _ _ _ _ _ _ _ _
        refine x_vi (w := oI (iBeh I1 r_1.2 none 512)) (congrArg oI (iBeh_kI 512)) ?_
        refine x_nmi fun x1 hx1 => ?_
        refine x_istore 51 [(1, .ref (x.ad 0 0)), (1, .ref (x.ad 6 r_1.2)), (1, .int 0), (1, .int (-1)), (1, .int x1), xo] dX1_doList_49 rfl (by decide) rfl ?_
        subst hx1
        have e0 : I1 0 0 14 = nI 0 := by rw [hI1]; exact xu_eq
        rw [← hI1] at hq
        exact l_X1_doList (s := r_2.2) (c := 0) (os := 0) (l := none) hU2 (by omega) (by omega) 512 (fun m e => by cases e) e0 (by omega) hq
      · skip
        intro hz2 w2 hU2
        rw [kU_no hz2] at hq
        exact hq.no hz2 hU2
    · skip
      have c12 : ¬ (iDir r_1.1.2.1 r_1.2) := b2i_0.mp c12
      rw [cif_f c12] at hq
      refine x_aload_n 16 dX1_doList_15 rfl rfl ?_
      refine x_getz 19 dX1_doList_16 rfl fl_X1_53 (hU1.ks.l0 (by omega)) (hU1.ks.z0_10 (by omega)) ?_
      refine x_bipush (v := -4) 21 dX1_doList_19 rfl rfl ?_
      refine x_callV (as := [.int (-4)]) (rest := []) (i := 0) (n' := n - 1) 24 dX1_doList_21 rfl mv_X1_364 rfl rfl (hU1.ks.l3 (by omega)) (xnh rfl) (by omega) (xst (Nat.le_of_ble_eq_true rfl)) (c_X4_by hU1.ks (by omega) ?_)
      change X _ _ _ _ _ _ _ _ _ _
      refine k_nmA (v := w1) (A1 := (xu r_1.1.2.1 3 0 0 ((-4)))) (by (repeat (first | rw [kI_xu] | rw [kI_xur] | rw [kI_xfil])) <;> rfl) fun I1 hI1 => ?_
      refine x_athrow dX1_doList_24 (xnh rfl) ?_
      rw [hI1]
      exact hq.thr (by decide) hU1
  · skip
    intro hz1 w1 hU1
    rw [kB_no hz1] at hq
    exact hq.no hz1 hU1
