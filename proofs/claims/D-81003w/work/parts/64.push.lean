set_option maxRecDepth 100000
theorem KI.psh {s : kK} {N m : Nat} {g a : Int32} (h : KI s N m) : KI (kPush N s g a) N m := by unfold kPush; exact h.abAll
theorem sx_psh {s : kK} {N : Nat} {g a : Int32} : kSx s (kPush N s g a) := by unfold kPush; exact sx_abAll
theorem KI.abt {s : kK} {N m p : Nat} (h : KI s N m) : KI (kAbt N s p) N m := by
  unfold kAbt
  by_cases e : pGrp s.1 p
  · rw [cif_t e]; exact h.abort
  · rw [cif_f e]; exact h
theorem sx_abt {s : kK} {N p : Nat} : kSx s (kAbt N s p) := by
  unfold kAbt
  by_cases e : pGrp s.1 p
  · rw [cif_t e]; exact sx_abort
  · rw [cif_f e]; exact kSx.rfl
theorem kAdopt_c {A : xI} {p c q i k : Nat} (h : ¬ (q = 9 ∧ k = 2)) : kAdopt p A c q i k = A q i k := by
  unfold kAdopt; split
  · exact xu_n (fun e => h ⟨e.1, e.2.2⟩)
  · rfl
theorem kAdoptN_c {A : xI} {p q i k : Nat} (h : ¬ (q = 9 ∧ k = 2)) : ∀ n, itA (kAdopt p) A n q i k = A q i k
  | 0 => rfl
  | n + 1 => (kAdopt_c h).trans (kAdoptN_c h n)
theorem kEndA_c {A : xI} {p q i k : Nat} {c : Int32} (h : ¬ (q = 9 ∧ (k = 2 ∨ k = 1 ∨ k = 3 ∨ k = 6 ∨ k = 10))) : kEndA A p c q i k = A q i k := by
  unfold kEndA; rw [kAdoptN_c (fun e => h ⟨e.1, Or.inl e.2⟩)]
  unfold kEndI
  rw [xu_n (fun e => h ⟨e.1, by omega⟩), xu_n (fun e => h ⟨e.1, by omega⟩), xu_n (fun e => h ⟨e.1, by omega⟩), xu_n (fun e => h ⟨e.1, by omega⟩)]
theorem KI.of {A : xI} {C : xR} {th : List xTh} {N m : Nat} (h1 : kWf A N) (h2 : kRef C N) (h3 : thOK th N) (h4 : kNum A N) (h5 : th.length ≤ m) : KI (A, C, th) N m := ⟨h1, h2, h3, h4, h5⟩
theorem KI.end {s : kK} {N m p : Nat} {c : Int32} (h : KI s N m) : KI (kEnd s p c) N m := by
  unfold kEnd
  refine KI.of (fun q i k m_ hm => ?_) ?_ h.ok ⟨fun i hi => ?_, fun q hq => ?_⟩ h.ln
  · by_cases g : q = 9 ∧ (k = 2 ∨ k = 1 ∨ k = 3 ∨ k = 6 ∨ k = 10)
    · obtain ⟨rfl, rfl | rfl | rfl | rfl | rfl⟩ := g <;> cases hm
    · rw [kEndA_c g]; exact h.wf q i k m_ hm
  · unfold kEndR
    exact (h.rf.u (w := none) (fun o e => by cases e)).ur (fun k o e => by cases e)
  · rw [kEndA_c (by omega)]; exact h.nm.1 i hi
  · rw [kEndA_c (by omega)]; exact h.nm.2 q hq
theorem cx_end {s : kK} {p : Nat} {c : Int32} : kCx s.2.1 (kEnd s p c).2.1 := by
  show kCx s.2.1 (kEndR s.2.1 p)
  unfold kEndR; exact (kCx.rfl.u rfl).ur rfl
noncomputable def kPs1 (N p : Nat) (s : kK) : Nat → kK × Bool
  | 0 => (s, false)
  | c + 1 => cif ((kPs1 N p s c).1.1 9 c 1 = 0 ∨ ¬ (kPs1 N p s c).1.1 9 c 2 = nI p) (kPs1 N p s c) (kPush N (kPs1 N p s c).1 7 (nI c), true)
noncomputable def kPs2 (N p : Nat) (s : kK) : Nat → kO
  | 0 => (0, s)
  | k + 1 => if (kPs2 N p s k).1 = 0 then (match (kPs2 N p s k).2.2.1 46 p k with
      | none => kPs2 N p s k
      | some o => cif (oPipe (kPs2 N p s k).2.2.1 o) (cif (kPk (kPs2 N p s k).2 o) (0, kPush N (kPs2 N p s k).2 6 ((kPs2 N p s k).2.1 7 o 1)) (99, (kPs2 N p s k).2)) (kPs2 N p s k)) else kPs2 N p s k
noncomputable def kPsC (N p : Nat) (cd : Int32) (s : kK) : kO := if (kPs2 N p s 8).1 = 0 then (0, kEnd (kPs2 N p s 8).2 p cd) else kPs2 N p s 8
noncomputable def kPsB (N p : Nat) (cd : Int32) (r : kK × Bool) : kO := kPsC N p cd (if r.2 = true then kPush N r.1 7 (nI 0) else r.1)
noncomputable def kPsA (N p : Nat) (cd : Int32) (s : kK) : kO := kPsB N p cd (kPs1 N p (kPush N s 7 (nI p)) 16)
/-- a process ends, whoever is met -/
noncomputable def kPsh (N : Nat) (s : kK) (p : Nat) (cd : Int32) : kO := if s.1 9 p 1 = 1 then kPsA N p cd (kAbt N s p) else (0, s)
theorem KI.ps1 {s : kK} {N m p : Nat} (h : KI s N m) : ∀ k, KI (kPs1 N p s k).1 N m ∧ kSx s (kPs1 N p s k).1
  | 0 => ⟨h, kSx.rfl⟩
  | k + 1 => by
    obtain ⟨h1, h2⟩ := KI.ps1 (p := p) h k
    unfold kPs1
    by_cases e : (kPs1 N p s k).1.1 9 k 1 = 0 ∨ ¬ (kPs1 N p s k).1.1 9 k 2 = nI p
    · rw [cif_t e]; exact ⟨h1, h2⟩
    · rw [cif_f e]; exact ⟨h1.psh, h2.trans sx_psh⟩
theorem KI.ps2 {s : kK} {N m p : Nat} (h : KI s N m) : ∀ k, KI (kPs2 N p s k).2 N m ∧ kSx s (kPs2 N p s k).2
  | 0 => ⟨h, kSx.rfl⟩
  | k + 1 => by
    obtain ⟨h1, h2⟩ := KI.ps2 (p := p) h k
    unfold kPs2
    split
    · split
      · exact ⟨h1, h2⟩
      · next o ho =>
        by_cases e : oPipe (kPs2 N p s k).2.2.1 o
        · rw [cif_t e]
          by_cases e2 : kPk (kPs2 N p s k).2 o
          · rw [cif_t e2]; exact ⟨h1.psh, h2.trans sx_psh⟩
          · rw [cif_f e2]; exact ⟨h1, h2⟩
        · rw [cif_f e]; exact ⟨h1, h2⟩
    · exact ⟨h1, h2⟩
theorem KI.psC {s : kK} {N m p : Nat} {cd : Int32} (h : KI s N m) : KI (kPsC N p cd s).2 N m ∧ kCx s.2.1 (kPsC N p cd s).2.2.1 := by
  have h2 := KI.ps2 (p := p) h 8
  unfold kPsC
  generalize kPs2 N p s 8 = r at h2
  by_cases e : r.1 = 0
  · rw [if_pos e]; exact ⟨h2.1.end, h2.2.2.trans cx_end⟩
  · rw [if_neg e]; exact ⟨h2.1, h2.2.2⟩
theorem KI.psB {r : kK × Bool} {N m p : Nat} {cd : Int32} (h : KI r.1 N m) : KI (kPsB N p cd r).2 N m ∧ kCx r.1.2.1 (kPsB N p cd r).2.2.1 := by
  unfold kPsB
  by_cases e : r.2 = true
  · rw [if_pos e]
    have := KI.psC (p := p) (cd := cd) (KI.psh (g := 7) (a := nI 0) h)
    exact ⟨this.1, sx_psh.2.trans this.2⟩
  · rw [if_neg e]; exact KI.psC h
theorem KI.psA {s : kK} {N m p : Nat} {cd : Int32} (h : KI s N m) : KI (kPsA N p cd s).2 N m ∧ kCx s.2.1 (kPsA N p cd s).2.2.1 := by
  unfold kPsA
  have h1 := KI.ps1 (p := p) (KI.psh (g := 7) (a := nI p) h) 16
  have h0 : kCx s.2.1 (kPush N s 7 (nI p)).2.1 := sx_psh.2
  generalize kPs1 N p (kPush N s 7 (nI p)) 16 = r at h1
  have h2 := KI.psB (p := p) (cd := cd) h1.1
  exact ⟨h2.1, h0.trans (h1.2.2.trans h2.2)⟩
theorem KI.push {s : kK} {N m p : Nat} {cd : Int32} (h : KI s N m) : KI (kPsh N s p cd).2 N m ∧ kCx s.2.1 (kPsh N s p cd).2.2.1 := by
  unfold kPsh
  by_cases e : s.1 9 p 1 = 1
  · rw [if_pos e]
    have h2 := KI.psA (p := p) (cd := cd) (h.abt (p := p))
    exact ⟨h2.1, sx_abt.2.trans h2.2⟩
  · rw [if_neg e]; exact ⟨h, kCx.rfl⟩
theorem kPs2_stop {N p : Nat} {s : kK} {k : Nat} (h : ¬ (kPs2 N p s k).1 = 0) : ∀ j, kPs2 N p s (k + j) = kPs2 N p s k
  | 0 => rfl
  | j + 1 => by
    show (if (kPs2 N p s (k + j)).1 = 0 then _ else kPs2 N p s (k + j)) = _
    rw [kPs2_stop h j, if_neg h]
theorem kPuN {Q : Outcome → xS → Prop} {x : kX} {q t : kK} (h : q = t) (k : ∀ v' : kV, KT x v' q.2.2 → Q (.returned none) (kS q.1 q.2.1 x v')) : ∀ v' : kV, KT x v' t.2.2 → Q (.returned none) (kS t.1 t.2.1 x v') := by rw [← h]; exact k
theorem kOv.ret {Q : Outcome → xS → Prop} {x : kX} {v' : kV} {A : xI} {C : xR} {th : List xTh} (h : kOv Q x (0, (A, C, th))) (hT : KT x v' th) : Q (.returned none) (kS A C x v') := h.2.1 rfl v' hT
theorem kOv.ret1 {Q : Outcome → xS → Prop} {x : kX} {v' : kV} {s : kK} (h : kOv Q x (0, s)) (hT : KT x v' s.2.2) : Q (.returned none) (kS s.1 s.2.1 x v') := h.2.1 rfl v' hT
theorem dX1_push_0 : decode cX1_push 0 = .ok (.aload_n 1, 1) := by decide +kernel
theorem dX1_push_1 : decode cX1_push 1 = .ok (.getfield 208, 3) := by decide +kernel
theorem dX1_push_4 : decode cX1_push 4 = .ok (.iconst 1, 1) := by decide +kernel
theorem dX1_push_5 : decode cX1_push 5 = .ok (.if_icmp .eq 4, 3) := by decide +kernel
theorem dX1_push_8 : decode cX1_push 8 = .ok (.return_, 1) := by decide +kernel
theorem dX1_push_9 : decode cX1_push 9 = .ok (.aload_n 1, 1) := by decide +kernel
theorem dX1_push_10 : decode cX1_push 10 = .ok (.invokevirtual 231, 3) := by decide +kernel
theorem dX1_push_13 : decode cX1_push 13 = .ok (.ifCond .eq 8, 3) := by decide +kernel
theorem dX1_push_16 : decode cX1_push 16 = .ok (.aload_n 0, 1) := by decide +kernel
theorem dX1_push_17 : decode cX1_push 17 = .ok (.aload_n 1, 1) := by decide +kernel
theorem dX1_push_18 : decode cX1_push 18 = .ok (.invokevirtual 353, 3) := by decide +kernel
theorem dX1_push_21 : decode cX1_push 21 = .ok (.aload_n 0, 1) := by decide +kernel
theorem dX1_push_22 : decode cX1_push 22 = .ok (.bipush 7, 2) := by decide +kernel
theorem dX1_push_24 : decode cX1_push 24 = .ok (.aload_n 1, 1) := by decide +kernel
theorem dX1_push_25 : decode cX1_push 25 = .ok (.getfield 346, 3) := by decide +kernel
theorem dX1_push_28 : decode cX1_push 28 = .ok (.invokevirtual 751, 3) := by decide +kernel
theorem dX1_push_31 : decode cX1_push 31 = .ok (.iconst 0, 1) := by decide +kernel
theorem dX1_push_32 : decode cX1_push 32 = .ok (.istore_n 3, 1) := by decide +kernel
theorem dX1_push_33 : decode cX1_push 33 = .ok (.aload_n 0, 1) := by decide +kernel
theorem dX1_push_34 : decode cX1_push 34 = .ok (.getfield 39, 3) := by decide +kernel
theorem dX1_push_37 : decode cX1_push 37 = .ok (.astore 4, 2) := by decide +kernel
theorem dX1_push_39 : decode cX1_push 39 = .ok (.aload 4, 2) := by decide +kernel
theorem dX1_push_41 : decode cX1_push 41 = .ok (.arraylength, 1) := by decide +kernel
theorem dX1_push_42 : decode cX1_push 42 = .ok (.istore 5, 2) := by decide +kernel
theorem dX1_push_44 : decode cX1_push 44 = .ok (.iconst 0, 1) := by decide +kernel
theorem dX1_push_45 : decode cX1_push 45 = .ok (.istore 6, 2) := by decide +kernel
theorem dX1_push_47 : decode cX1_push 47 = .ok (.iload 6, 2) := by decide +kernel
theorem dX1_push_49 : decode cX1_push 49 = .ok (.iload 5, 2) := by decide +kernel
theorem dX1_push_51 : decode cX1_push 51 = .ok (.if_icmp .ge 52, 3) := by decide +kernel
theorem dX1_push_54 : decode cX1_push 54 = .ok (.aload 4, 2) := by decide +kernel
theorem dX1_push_56 : decode cX1_push 56 = .ok (.iload 6, 2) := by decide +kernel
theorem dX1_push_58 : decode cX1_push 58 = .ok (.aaload, 1) := by decide +kernel
theorem dX1_push_59 : decode cX1_push 59 = .ok (.astore 7, 2) := by decide +kernel
theorem dX1_push_61 : decode cX1_push 61 = .ok (.aload 7, 2) := by decide +kernel
theorem dX1_push_63 : decode cX1_push 63 = .ok (.getfield 208, 3) := by decide +kernel
theorem dX1_push_66 : decode cX1_push 66 = .ok (.ifCond .eq 31, 3) := by decide +kernel
theorem dX1_push_69 : decode cX1_push 69 = .ok (.aload 7, 2) := by decide +kernel
theorem dX1_push_71 : decode cX1_push 71 = .ok (.getfield 703, 3) := by decide +kernel
theorem dX1_push_74 : decode cX1_push 74 = .ok (.aload_n 1, 1) := by decide +kernel
theorem dX1_push_75 : decode cX1_push 75 = .ok (.getfield 346, 3) := by decide +kernel
theorem dX1_push_78 : decode cX1_push 78 = .ok (.if_icmp .eq 6, 3) := by decide +kernel
theorem dX1_push_81 : decode cX1_push 81 = .ok (.goto 16, 3) := by decide +kernel
theorem dX1_push_84 : decode cX1_push 84 = .ok (.aload_n 0, 1) := by decide +kernel
theorem dX1_push_85 : decode cX1_push 85 = .ok (.bipush 7, 2) := by decide +kernel
theorem dX1_push_87 : decode cX1_push 87 = .ok (.aload 7, 2) := by decide +kernel
theorem dX1_push_89 : decode cX1_push 89 = .ok (.getfield 346, 3) := by decide +kernel
theorem dX1_push_92 : decode cX1_push 92 = .ok (.invokevirtual 751, 3) := by decide +kernel
theorem dX1_push_95 : decode cX1_push 95 = .ok (.iconst 1, 1) := by decide +kernel
theorem dX1_push_96 : decode cX1_push 96 = .ok (.istore_n 3, 1) := by decide +kernel
theorem dX1_push_97 : decode cX1_push 97 = .ok (.iinc 6 1, 3) := by decide +kernel
theorem dX1_push_100 : decode cX1_push 100 = .ok (.goto (-53), 3) := by decide +kernel
theorem dX1_push_103 : decode cX1_push 103 = .ok (.iload_n 3, 1) := by decide +kernel
theorem dX1_push_104 : decode cX1_push 104 = .ok (.ifCond .eq 10, 3) := by decide +kernel
theorem dX1_push_107 : decode cX1_push 107 = .ok (.aload_n 0, 1) := by decide +kernel
theorem dX1_push_108 : decode cX1_push 108 = .ok (.bipush 7, 2) := by decide +kernel
theorem dX1_push_110 : decode cX1_push 110 = .ok (.iconst 0, 1) := by decide +kernel
theorem dX1_push_111 : decode cX1_push 111 = .ok (.invokevirtual 751, 3) := by decide +kernel
theorem dX1_push_114 : decode cX1_push 114 = .ok (.iconst 0, 1) := by decide +kernel
theorem dX1_push_115 : decode cX1_push 115 = .ok (.istore 4, 2) := by decide +kernel
theorem dX1_push_117 : decode cX1_push 117 = .ok (.iload 4, 2) := by decide +kernel
theorem dX1_push_119 : decode cX1_push 119 = .ok (.bipush 8, 2) := by decide +kernel
theorem dX1_push_121 : decode cX1_push 121 = .ok (.if_icmp .ge 48, 3) := by decide +kernel
theorem dX1_push_124 : decode cX1_push 124 = .ok (.aload_n 1, 1) := by decide +kernel
theorem dX1_push_125 : decode cX1_push 125 = .ok (.getfield 246, 3) := by decide +kernel
theorem dX1_push_128 : decode cX1_push 128 = .ok (.iload 4, 2) := by decide +kernel
theorem dX1_push_130 : decode cX1_push 130 = .ok (.aaload, 1) := by decide +kernel
theorem dX1_push_131 : decode cX1_push 131 = .ok (.ifnull 32, 3) := by decide +kernel
theorem dX1_push_134 : decode cX1_push 134 = .ok (.aload_n 1, 1) := by decide +kernel
theorem dX1_push_135 : decode cX1_push 135 = .ok (.getfield 246, 3) := by decide +kernel
theorem dX1_push_138 : decode cX1_push 138 = .ok (.iload 4, 2) := by decide +kernel
theorem dX1_push_140 : decode cX1_push 140 = .ok (.aaload, 1) := by decide +kernel
theorem dX1_push_141 : decode cX1_push 141 = .ok (.invokevirtual 237, 3) := by decide +kernel
theorem dX1_push_144 : decode cX1_push 144 = .ok (.ifCond .eq 19, 3) := by decide +kernel
theorem dX1_push_147 : decode cX1_push 147 = .ok (.aload_n 0, 1) := by decide +kernel
theorem dX1_push_148 : decode cX1_push 148 = .ok (.bipush 6, 2) := by decide +kernel
theorem dX1_push_150 : decode cX1_push 150 = .ok (.aload_n 1, 1) := by decide +kernel
theorem dX1_push_151 : decode cX1_push 151 = .ok (.getfield 246, 3) := by decide +kernel
theorem dX1_push_154 : decode cX1_push 154 = .ok (.iload 4, 2) := by decide +kernel
theorem dX1_push_156 : decode cX1_push 156 = .ok (.aaload, 1) := by decide +kernel
theorem dX1_push_157 : decode cX1_push 157 = .ok (.getfield 240, 3) := by decide +kernel
theorem dX1_push_160 : decode cX1_push 160 = .ok (.invokevirtual 751, 3) := by decide +kernel
theorem dX1_push_163 : decode cX1_push 163 = .ok (.iinc 4 1, 3) := by decide +kernel
theorem dX1_push_166 : decode cX1_push 166 = .ok (.goto (-49), 3) := by decide +kernel
theorem dX1_push_169 : decode cX1_push 169 = .ok (.aload_n 0, 1) := by decide +kernel
theorem dX1_push_170 : decode cX1_push 170 = .ok (.aload_n 1, 1) := by decide +kernel
theorem dX1_push_171 : decode cX1_push 171 = .ok (.iload_n 2, 1) := by decide +kernel
theorem dX1_push_172 : decode cX1_push 172 = .ok (.invokevirtual 712, 3) := by decide +kernel
theorem dX1_push_175 : decode cX1_push 175 = .ok (.return_, 1) := by decide +kernel
set_option maxHeartbeats 400000 in
set_option maxRecDepth 100000 in
theorem l3_X1_push {G : xG} {n a b : Nat} {Q : Outcome → xS → Prop} {x : kX} {s : kK} {mm : Nat} (hK : KI s x.N mm) {p : Nat} {cd : Int32} (hp : p < 16) (hmm : mm < 16384) (hq : kOv Q x (kPsC x.N p cd s)) (k : Nat) (I : xI) (R : xR) (th : List xTh) (v : kV) (hn : 8 ≤ n) :
    (k ≤ 8) → (KT x v th) → ((0, (I, R, th)) = kPs2 x.N p s k) → X G mX1_push n a b Q (kS I R x v) 117 [(1, .ref (x.ad 0 0)), (1, .ref (x.ad 9 p)), (1, .int cd), xo, (1, .int (nI k)), xo, xo, xo] [] := by
  induction hm : 8 - k using Nat.strongRecOn generalizing k I R th v with
  | _ m_ ih =>
    intro h8 hT hw
    have hnb := hT.ks.nb
    have hKS := KI.ps2 (p := p) hK k
    rw [← hw] at hKS
    obtain ⟨hKk, hSk⟩ := hKS
    refine x_iload 119 dX1_push_117 rfl rfl ?_
    refine x_bipush (v := 8) 121 dX1_push_119 rfl rfl ?_
    refine x_icmp_ge 169 124 dX1_push_121 (by decide) rfl (fun c121 => ?_) (fun c121 => ?_)
    · skip
      have c121 : 8 ≤ k := (nI_leI (a := 8) (b := k) (by omega) (by omega)).mp c121
      refine x_aload_n 170 dX1_push_169 rfl rfl ?_
      refine x_aload_n 171 dX1_push_170 rfl rfl ?_
      refine x_iload_n 172 dX1_push_171 rfl rfl ?_
      refine x_callV (as := [.ref (x.ad 9 p), .int cd]) (rest := []) (i := 0) (n' := n - 1) 175 dX1_push_172 rfl mv_X1_712 rfl rfl (hT.ks.l0 (by omega)) (xnh rfl) (by omega) (xst (Nat.le_of_ble_eq_true rfl)) (c_X1_end hT.ks (by omega) (by omega) (kEnd_q ?_))
      change X _ _ _ _ _ _ _ _ _ _
      refine k_nmA (v := v) (A1 := (kEndA I p cd)) kI_kEndA fun I1 hI1 => ?_
      refine k_nmC (v := v) (C1 := (kEndR R p)) kR_kEndR fun R1 hR1 => ?_
      refine x_vreturn dX1_push_175 rfl ?_
      have e : k = 8 := by omega
      unfold kPsC at hq
      rw [← e, ← hw, if_pos rfl] at hq
      unfold kEnd at hq
      rw [hI1, hR1]
      exact hq.ret hT
    · skip
      have c121 : ¬ (8 ≤ k) := fun h => c121 ((nI_leI (a := 8) (b := k) (by omega) (by omega)).mpr h)
      refine x_aload_n 125 dX1_push_124 rfl rfl ?_
      refine x_getz 128 dX1_push_125 rfl fl_X1_246 (hT.ks.l9 (by omega)) (hT.ks.z9_4 (by omega)) ?_
      refine x_iload 130 dX1_push_128 rfl rfl ?_
      refine x_aldr 131 dX1_push_130 rfl ar_46 rfl (hT.ks.l46 (by omega)) (xb (hT.ks.n46 (by omega)) (by omega) (by omega)) ?_
      refine x_vr (w := R 46 p k) rfl ?_
      refine x_ifnull 163 134 dX1_push_131 (by decide) rfl (fun c131 => ?_) (fun j1 c131 => ?_)
      · skip
        refine x_iinc 166 [(1, .ref (x.ad 0 0)), (1, .ref (x.ad 9 p)), (1, .int cd), xo, (1, .int (nI (k + 1))), xo, xo, xo] dX1_push_163 rfl (by decide) rfl (xi_1 k) rfl ?_
        refine x_goto 117 dX1_push_166 (by decide) ?_
        exact ih _ (by rw [← hm]; omega) (k + 1) I R th v rfl (by omega) (hT) (by unfold kPs2; rw [← hw, if_pos rfl]; show _ = (match R 46 p k with | none => _ | some o => _); rw [c131])
      · skip
        have d131 : R 46 p k = some j1 := c131
        have hj3 := hKk.rf.row d131
        refine x_aload_n 135 dX1_push_134 rfl rfl ?_
        refine x_getz 138 dX1_push_135 rfl fl_X1_246 (hT.ks.l9 (by omega)) (hT.ks.z9_4 (by omega)) ?_
        refine x_iload 140 dX1_push_138 rfl rfl ?_
        refine x_alds 141 dX1_push_140 rfl ar_46 rfl (hT.ks.l46 (by omega)) (xb (hT.ks.n46 (by omega)) (by omega) (by omega)) c131 ?_
        refine x_callV (as := []) (rest := []) (i := j1) (n' := n - 1) 144 dX1_push_141 rfl mv_X1_237 rfl rfl (hT.ks.l7 hj3) (xnh rfl) (by omega) (xst (Nat.le_of_ble_eq_true rfl)) (c_X8_isPipe hT.ks (by omega) (by omega) ?_)
        change X _ _ _ _ _ _ _ _ _ _
        refine x_vi (w := b2i (oPipe R j1)) rfl ?_
        refine x_if_eq 163 147 dX1_push_144 (by decide) rfl (fun c144 => ?_) (fun c144 => ?_)
        · skip
          have c144 : ¬ (oPipe R j1) := b2i_0.mp c144
          refine x_iinc 166 [(1, .ref (x.ad 0 0)), (1, .ref (x.ad 9 p)), (1, .int cd), xo, (1, .int (nI (k + 1))), xo, xo, xo] dX1_push_163 rfl (by decide) rfl (xi_1 k) rfl ?_
          refine x_goto 117 dX1_push_166 (by decide) ?_
          exact ih _ (by rw [← hm]; omega) (k + 1) I R th v rfl (by omega) (hT) (by unfold kPs2; rw [← hw, if_pos rfl]; show _ = (match R 46 p k with | none => _ | some o => _); rw [d131]; show _ = cif (oPipe R j1) _ _; rw [cif_f c144])
        · skip
          have c144 : oPipe R j1 := b2i_n0.mp c144
          have hpk_ : kPk (I, R, th) j1 := Classical.byContradiction (fun h => by
            have hs9 : kPs2 x.N p s (k + 1) = (99, (I, R, th)) := by unfold kPs2; rw [← hw, if_pos rfl]; show (match R 46 p k with | none => _ | some o => _) = _; rw [d131]; show cif (oPipe R j1) (cif (kPk (I, R, th) j1) _ _) _ = _; rw [cif_t c144, cif_f h]
            obtain ⟨j_, hj_⟩ : ∃ j_, 8 = (k + 1) + j_ := ⟨8 - (k + 1), by omega⟩
            unfold kPsC at hq
            rw [hj_, kPs2_stop (by rw [hs9]; exact (show ¬ (99 : Int32) = 0 by decide)), hs9, if_neg (show ¬ (99 : Int32) = 0 by decide)] at hq
            exact hq.1 rfl)
          refine x_aload_n 148 dX1_push_147 rfl rfl ?_
          refine x_bipush (v := 6) 150 dX1_push_148 rfl rfl ?_
          refine x_aload_n 151 dX1_push_150 rfl rfl ?_
          refine x_getz 154 dX1_push_151 rfl fl_X1_246 (hT.ks.l9 (by omega)) (hT.ks.z9_4 (by omega)) ?_
          refine x_iload 156 dX1_push_154 rfl rfl ?_
          refine x_alds 157 dX1_push_156 rfl ar_46 rfl (hT.ks.l46 (by omega)) (xb (hT.ks.n46 (by omega)) (by omega) (by omega)) c131 ?_
          refine x_geti 160 dX1_push_157 rfl fl_X1_240 (hT.ks.l7 hj3) ?_
          refine x_vi (w := I 7 j1 1) rfl ?_
          obtain ⟨q1, hq1⟩ : ∃ q : kK, q = kPush x.N (I, R, th) 6 (I 7 j1 1) := ⟨_, rfl⟩
          have hs1 : kPs2 x.N p s (k + 1) = (0, q1) := by unfold kPs2; rw [← hw, if_pos rfl]; show (match R 46 p k with | none => _ | some o => _) = _; rw [d131]; show cif (oPipe R j1) (cif (kPk (I, R, th) j1) _ _) _ = _; rw [cif_t c144, cif_t hpk_, hq1]
          refine x_callV (as := [.int 6, .int (I 7 j1 1)]) (rest := []) (i := 0) (n' := n - 1) 163 dX1_push_160 rfl mv_X1_751 rfl rfl (hT.ks.l0 (by omega)) (xnh rfl) (by omega) (xst (Nat.le_of_ble_eq_true rfl)) (c_X1_pushes (g := 6) (oa := I 7 j1 1) hT hKk hmm (by omega) (kPuN hq1 ?_))
          · skip
            intro w1 hU1
            change X _ _ _ _ _ _ _ _ _ _
            refine x_iinc 166 [(1, .ref (x.ad 0 0)), (1, .ref (x.ad 9 p)), (1, .int cd), xo, (1, .int (nI (k + 1))), xo, xo, xo] dX1_push_163 rfl (by decide) rfl (xi_1 k) rfl ?_
            refine x_goto 117 dX1_push_166 (by decide) ?_
            exact ih _ (by rw [← hm]; omega) (k + 1) q1.1 q1.2.1 q1.2.2 w1 rfl (by omega) (hU1) (hs1.symm)
set_option maxHeartbeats 4000000 in
set_option maxRecDepth 100000 in
theorem s114_psh {G : xG} {n a b : Nat} {Q : Outcome → xS → Prop} {x : kX} {I : xI} {R : xR} {v : kV} {th : List xTh} {mm : Nat} (hT : KT x v th) (hK : KI (I, R, th) x.N mm) {p : Nat} {cd : Int32} (hp : p < 16) (hmm : mm < 16384) (hn : 8 ≤ n) (hq : kOv Q x (kPsC x.N p cd (I, R, th))) : X G mX1_push n a b Q (kS I R x v) 114 [(1, .ref (x.ad 0 0)), (1, .ref (x.ad 9 p)), (1, .int cd), xo, xo, xo, xo, xo] [] := by
  have hnb := hT.ks.nb
  refine x_iconst (v := 0) 115 dX1_push_114 rfl rfl ?_
  refine x_istore 117 [(1, .ref (x.ad 0 0)), (1, .ref (x.ad 9 p)), (1, .int cd), xo, (1, .int 0), xo, xo, xo] dX1_push_115 rfl (by decide) rfl ?_
  exact l3_X1_push (s := (I, R, th)) hK hp hmm hq 0 I R th v hn (by omega) hT rfl
set_option maxHeartbeats 4000000 in
set_option maxRecDepth 100000 in
theorem s103_psh {G : xG} {n a b : Nat} {Q : Outcome → xS → Prop} {x : kX} {I : xI} {R : xR} {v : kV} {th : List xTh} {mm : Nat} (hT : KT x v th) (hK : KI (I, R, th) x.N mm) {p : Nat} {cd : Int32} (hp : p < 16) {bb : Bool} (hmm : mm < 16384) (hn : 9 ≤ n) (hq : kOv Q x (kPsB x.N p cd ((I, R, th), bb))) : X G mX1_push n a b Q (kS I R x v) 103 [(1, .ref (x.ad 0 0)), (1, .ref (x.ad 9 p)), (1, .int cd), (1, .int (oIf bb)), xo, xo, xo, xo] [] := by
  have hnb := hT.ks.nb
  unfold kPsB at hq
  refine x_iload_n 104 dX1_push_103 rfl rfl ?_
  refine x_if_eq 114 107 dX1_push_104 (by decide) rfl (fun c104 => ?_) (fun c104 => ?_)
  · skip
    refine x_fgt [(1, .ref (x.ad 0 0)), (1, .ref (x.ad 9 p)), (1, .int cd), xo, xo, xo, xo, xo] ⟨Or.inr rfl, Or.inr rfl, Or.inr rfl, Or.inl rfl, Or.inl rfl, Or.inl rfl, Or.inl rfl, Or.inl rfl, trivial⟩ ?_
    rw [if_neg (fun h => by rw [show bb = true from h] at c104; exact absurd c104 (by decide))] at hq
    exact s114_psh hT hK hp hmm (by omega) hq
  · skip
    rw [if_pos (show bb = true by cases bb; exact absurd rfl c104; rfl)] at hq
    refine x_aload_n 108 dX1_push_107 rfl rfl ?_
    refine x_bipush (v := 7) 110 dX1_push_108 rfl rfl ?_
    refine x_iconst (v := 0) 111 dX1_push_110 rfl rfl ?_
    obtain ⟨q1, hq1⟩ : ∃ q : kK, q = kPush x.N (I, R, th) 7 (nI 0) := ⟨_, rfl⟩
    have hKq1 : KI q1 x.N mm := by rw [hq1]; exact hK.psh
    have hSq1 : kSx (I, R, th) q1 := by rw [hq1]; exact sx_psh
    refine x_callV (as := [.int 7, .int 0]) (rest := []) (i := 0) (n' := n - 1) 114 dX1_push_111 rfl mv_X1_751 rfl rfl (hT.ks.l0 (by omega)) (xnh rfl) (by omega) (xst (Nat.le_of_ble_eq_true rfl)) (c_X1_pushes (g := 7) (oa := nI 0) hT hK hmm (by omega) (kPuN hq1 ?_))
    · skip
      intro wq1 hUq1
      change X _ _ _ _ _ _ _ _ _ _
      refine x_fgt [(1, .ref (x.ad 0 0)), (1, .ref (x.ad 9 p)), (1, .int cd), xo, xo, xo, xo, xo] ⟨Or.inr rfl, Or.inr rfl, Or.inr rfl, Or.inl rfl, Or.inl rfl, Or.inl rfl, Or.inl rfl, Or.inl rfl, trivial⟩ ?_
      rw [← hq1] at hq; exact s114_psh hUq1 hKq1 hp hmm (by omega) hq
set_option maxHeartbeats 400000 in
set_option maxRecDepth 100000 in
theorem l1_X1_push {G : xG} {n a b : Nat} {Q : Outcome → xS → Prop} {x : kX} {s : kK} {mm : Nat} (hK : KI s x.N mm) {p : Nat} {cd : Int32} (hp : p < 16) (hmm : mm < 16384) (hq : kOv Q x (kPsB x.N p cd (kPs1 x.N p s 16))) (k : Nat) (bb : Bool) (I : xI) (R : xR) (th : List xTh) (v : kV) (hn : 9 ≤ n) :
    (k ≤ 16) → (KT x v th) → (((I, R, th), bb) = kPs1 x.N p s k) → X G mX1_push n a b Q (kS I R x v) 47 [(1, .ref (x.ad 0 0)), (1, .ref (x.ad 9 p)), (1, .int cd), (1, .int (oIf bb)), (1, .ref (x.ad 26 0)), (1, .int (nI 16)), (1, .int (nI k)), xo] [] := by
  induction hm : 16 - k using Nat.strongRecOn generalizing k bb I R th v with
  | _ m_ ih =>
    intro h8 hT hw
    have hnb := hT.ks.nb
    have hKS := KI.ps1 (p := p) hK k
    rw [← hw] at hKS
    obtain ⟨hKk, hSk⟩ := hKS
    refine x_iload 49 dX1_push_47 rfl rfl ?_
    refine x_iload 51 dX1_push_49 rfl rfl ?_
    refine x_icmp_ge 103 54 dX1_push_51 (by decide) rfl (fun c51 => ?_) (fun c51 => ?_)
    · skip
      have c51 : 16 ≤ k := (nI_leI (a := 16) (b := k) (by omega) (by omega)).mp c51
      refine x_fgt [(1, .ref (x.ad 0 0)), (1, .ref (x.ad 9 p)), (1, .int cd), (1, .int (oIf bb)), xo, xo, xo, xo] ⟨Or.inr rfl, Or.inr rfl, Or.inr rfl, Or.inr rfl, Or.inl rfl, Or.inl rfl, Or.inl rfl, Or.inl rfl, trivial⟩ ?_
      have e : k = 16 := by omega
      rw [← e, ← hw] at hq
      exact s103_psh hT hKk hp hmm (by omega) hq
    · skip
      have c51 : ¬ (16 ≤ k) := fun h => c51 ((nI_leI (a := 16) (b := k) (by omega) (by omega)).mpr h)
      refine x_aload 56 dX1_push_54 rfl rfl ?_
      refine x_iload 58 dX1_push_56 rfl rfl ?_
      refine x_aldz 59 dX1_push_58 rfl ar_26 rfl (hT.ks.l26 (by omega)) (xb (hT.ks.n26 (by omega)) (by omega) (by omega)) (hT.ks.z26 (by omega)) ?_
      refine x_astore 61 [(1, .ref (x.ad 0 0)), (1, .ref (x.ad 9 p)), (1, .int cd), (1, .int (oIf bb)), (1, .ref (x.ad 26 0)), (1, .int (nI 16)), (1, .int (nI k)), (1, .ref (x.ad 9 k))] dX1_push_59 rfl (by decide) rfl ?_
      refine x_aload 63 dX1_push_61 rfl rfl ?_
      refine x_geti 66 dX1_push_63 rfl fl_X1_208 (hT.ks.l9 (by omega)) ?_
      refine x_vi (w := I 9 k 1) rfl ?_
      refine x_if_eq 97 69 dX1_push_66 (by decide) rfl (fun c66 => ?_) (fun c66 => ?_)
      · skip
        refine x_iinc 100 [(1, .ref (x.ad 0 0)), (1, .ref (x.ad 9 p)), (1, .int cd), (1, .int (oIf bb)), (1, .ref (x.ad 26 0)), (1, .int (nI 16)), (1, .int (nI (k + 1))), (1, .ref (x.ad 9 k))] dX1_push_97 rfl (by decide) rfl (xi_1 k) rfl ?_
        refine x_goto 47 dX1_push_100 (by decide) ?_
        refine x_fgt [(1, .ref (x.ad 0 0)), (1, .ref (x.ad 9 p)), (1, .int cd), (1, .int (oIf bb)), (1, .ref (x.ad 26 0)), (1, .int (nI 16)), (1, .int (nI (k + 1))), xo] ⟨Or.inr rfl, Or.inr rfl, Or.inr rfl, Or.inr rfl, Or.inr rfl, Or.inr rfl, Or.inr rfl, Or.inl rfl, trivial⟩ ?_
        exact ih _ (by rw [← hm]; omega) (k + 1) bb I R th v rfl (by omega) (hT) (by unfold kPs1; rw [← hw]; show _ = cif (I 9 k 1 = 0 ∨ ¬ I 9 k 2 = nI p) _ _; rw [cif_t (Or.inl c66)])
      · skip
        refine x_aload 71 dX1_push_69 rfl rfl ?_
        refine x_geti 74 dX1_push_71 rfl fl_X1_703 (hT.ks.l9 (by omega)) ?_
        refine x_vi (w := I 9 k 2) rfl ?_
        refine x_aload_n 75 dX1_push_74 rfl rfl ?_
        refine x_geti 78 dX1_push_75 rfl fl_X1_346 (hT.ks.l9 (by omega)) ?_
        refine x_vi (w := I 9 p 0) rfl ?_
        refine x_vi (w := nI p) (hKk.nm.2 p hp) ?_
        refine x_icmp_eq 84 81 dX1_push_78 (by decide) rfl (fun c78 => ?_) (fun c78 => ?_)
        · skip
          refine x_aload_n 85 dX1_push_84 rfl rfl ?_
          refine x_bipush (v := 7) 87 dX1_push_85 rfl rfl ?_
          refine x_aload 89 dX1_push_87 rfl rfl ?_
          refine x_geti 92 dX1_push_89 rfl fl_X1_346 (hT.ks.l9 (by omega)) ?_
          refine x_vi (w := I 9 k 0) rfl ?_
          refine x_vi (w := nI k) (hKk.nm.2 k (by omega)) ?_
          obtain ⟨q1, hq1⟩ : ∃ q : kK, q = kPush x.N (I, R, th) 7 (nI k) := ⟨_, rfl⟩
          have hs1 : kPs1 x.N p s (k + 1) = (q1, true) := by unfold kPs1; rw [← hw]; show cif (I 9 k 1 = 0 ∨ ¬ I 9 k 2 = nI p) _ _ = _; rw [cif_f (by rintro (h | h); exact c66 h; exact h c78), hq1]
          refine x_callV (as := [.int 7, .int (nI k)]) (rest := []) (i := 0) (n' := n - 1) 95 dX1_push_92 rfl mv_X1_751 rfl rfl (hT.ks.l0 (by omega)) (xnh rfl) (by omega) (xst (Nat.le_of_ble_eq_true rfl)) (c_X1_pushes (g := 7) (oa := nI k) hT hKk hmm (by omega) (kPuN hq1 ?_))
          · skip
            intro w1 hU1
            change X _ _ _ _ _ _ _ _ _ _
            refine x_iconst (v := 1) 96 dX1_push_95 rfl rfl ?_
            refine x_istore_n 97 [(1, .ref (x.ad 0 0)), (1, .ref (x.ad 9 p)), (1, .int cd), (1, .int 1), (1, .ref (x.ad 26 0)), (1, .int (nI 16)), (1, .int (nI k)), (1, .ref (x.ad 9 k))] dX1_push_96 rfl (by decide) rfl ?_
            refine x_iinc 100 [(1, .ref (x.ad 0 0)), (1, .ref (x.ad 9 p)), (1, .int cd), (1, .int 1), (1, .ref (x.ad 26 0)), (1, .int (nI 16)), (1, .int (nI (k + 1))), (1, .ref (x.ad 9 k))] dX1_push_97 rfl (by decide) rfl (xi_1 k) rfl ?_
            refine x_goto 47 dX1_push_100 (by decide) ?_
            refine x_fgt [(1, .ref (x.ad 0 0)), (1, .ref (x.ad 9 p)), (1, .int cd), (1, .int 1), (1, .ref (x.ad 26 0)), (1, .int (nI 16)), (1, .int (nI (k + 1))), xo] ⟨Or.inr rfl, Or.inr rfl, Or.inr rfl, Or.inr rfl, Or.inr rfl, Or.inr rfl, Or.inr rfl, Or.inl rfl, trivial⟩ ?_
            exact ih _ (by rw [← hm]; omega) (k + 1) true q1.1 q1.2.1 q1.2.2 w1 rfl (by omega) (hU1) (hs1.symm)
        · skip
          refine x_goto 97 dX1_push_81 (by decide) ?_
          refine x_iinc 100 [(1, .ref (x.ad 0 0)), (1, .ref (x.ad 9 p)), (1, .int cd), (1, .int (oIf bb)), (1, .ref (x.ad 26 0)), (1, .int (nI 16)), (1, .int (nI (k + 1))), (1, .ref (x.ad 9 k))] dX1_push_97 rfl (by decide) rfl (xi_1 k) rfl ?_
          refine x_goto 47 dX1_push_100 (by decide) ?_
          refine x_fgt [(1, .ref (x.ad 0 0)), (1, .ref (x.ad 9 p)), (1, .int cd), (1, .int (oIf bb)), (1, .ref (x.ad 26 0)), (1, .int (nI 16)), (1, .int (nI (k + 1))), xo] ⟨Or.inr rfl, Or.inr rfl, Or.inr rfl, Or.inr rfl, Or.inr rfl, Or.inr rfl, Or.inr rfl, Or.inl rfl, trivial⟩ ?_
          exact ih _ (by rw [← hm]; omega) (k + 1) bb I R th v rfl (by omega) (hT) (by unfold kPs1; rw [← hw]; show _ = cif (I 9 k 1 = 0 ∨ ¬ I 9 k 2 = nI p) _ _; rw [cif_t (Or.inr c78)])
set_option maxHeartbeats 4000000 in
set_option maxRecDepth 100000 in
theorem s21_psh {G : xG} {n a b : Nat} {Q : Outcome → xS → Prop} {x : kX} {I : xI} {R : xR} {v : kV} {th : List xTh} {mm : Nat} (hT : KT x v th) (hK : KI (I, R, th) x.N mm) {p : Nat} {cd : Int32} (hp : p < 16) (hmm : mm < 16384) (hn : 9 ≤ n) (hq : kOv Q x (kPsA x.N p cd (I, R, th))) : X G mX1_push n a b Q (kS I R x v) 21 [(1, .ref (x.ad 0 0)), (1, .ref (x.ad 9 p)), (1, .int cd), xo, xo, xo, xo, xo] [] := by
  have hnb := hT.ks.nb
  unfold kPsA at hq
  refine x_aload_n 22 dX1_push_21 rfl rfl ?_
  refine x_bipush (v := 7) 24 dX1_push_22 rfl rfl ?_
  refine x_aload_n 25 dX1_push_24 rfl rfl ?_
  refine x_geti 28 dX1_push_25 rfl fl_X1_346 (hT.ks.l9 (by omega)) ?_
  refine x_vi (w := I 9 p 0) rfl ?_
  refine x_vi (w := nI p) (hK.nm.2 p hp) ?_
  obtain ⟨q1, hq1⟩ : ∃ q : kK, q = kPush x.N (I, R, th) 7 (nI p) := ⟨_, rfl⟩
  have hKq1 : KI q1 x.N mm := by rw [hq1]; exact hK.psh
  have hSq1 : kSx (I, R, th) q1 := by rw [hq1]; exact sx_psh
  refine x_callV (as := [.int 7, .int (nI p)]) (rest := []) (i := 0) (n' := n - 1) 31 dX1_push_28 rfl mv_X1_751 rfl rfl (hT.ks.l0 (by omega)) (xnh rfl) (by omega) (xst (Nat.le_of_ble_eq_true rfl)) (c_X1_pushes (g := 7) (oa := nI p) hT hK hmm (by omega) (kPuN hq1 ?_))
  · skip
    intro wq1 hUq1
    change X _ _ _ _ _ _ _ _ _ _
    refine x_iconst (v := 0) 32 dX1_push_31 rfl rfl ?_
    refine x_istore_n 33 [(1, .ref (x.ad 0 0)), (1, .ref (x.ad 9 p)), (1, .int cd), (1, .int 0), xo, xo, xo, xo] dX1_push_32 rfl (by decide) rfl ?_
    refine x_aload_n 34 dX1_push_33 rfl rfl ?_
    refine x_getz 37 dX1_push_34 rfl fl_X1_39 (hUq1.ks.l0 (by omega)) (hUq1.ks.z0_8 (by omega)) ?_
    refine x_astore 39 [(1, .ref (x.ad 0 0)), (1, .ref (x.ad 9 p)), (1, .int cd), (1, .int 0), (1, .ref (x.ad 26 0)), xo, xo, xo] dX1_push_37 rfl (by decide) rfl ?_
    refine x_aload 41 dX1_push_39 rfl rfl ?_
    refine x_alen 42 dX1_push_41 rfl ar_26 (hUq1.ks.l26 (by omega)) ?_
    refine x_vi (congrArg nI (hUq1.ks.n26 (by omega))) ?_
    refine x_istore 44 [(1, .ref (x.ad 0 0)), (1, .ref (x.ad 9 p)), (1, .int cd), (1, .int 0), (1, .ref (x.ad 26 0)), (1, .int (nI 16)), xo, xo] dX1_push_42 rfl (by decide) rfl ?_
    refine x_iconst (v := 0) 45 dX1_push_44 rfl rfl ?_
    refine x_istore 47 [(1, .ref (x.ad 0 0)), (1, .ref (x.ad 9 p)), (1, .int cd), (1, .int 0), (1, .ref (x.ad 26 0)), (1, .int (nI 16)), (1, .int 0), xo] dX1_push_45 rfl (by decide) rfl ?_
    rw [← hq1] at hq
    exact l1_X1_push (s := q1) hKq1 hp hmm hq 0 false q1.1 q1.2.1 q1.2.2 wq1 (by omega) (by omega) hUq1 rfl
set_option maxHeartbeats 400000 in
set_option maxRecDepth 100000 in
theorem c_X1_push {G : xG} {n : Nat} {Q : Outcome → xS → Prop} {x : kX} {I : xI} {R : xR} {v : kV} {th : List xTh} {mm : Nat} (hT : KT x v th) (hK : KI (I, R, th) x.N mm) {p : Nat} {cd : Int32} (hp : p < 16) (hmm : mm < 16384) (hn : 9 ≤ n) (hq : kOv Q x (kPsh x.N (I, R, th) p cd)) : xCall G mX1_push n [.ref (x.ad 0 0), .ref (x.ad 9 p), .int cd] (kS I R x v) Q := by
  refine x_met (L0 := [(1, .ref (x.ad 0 0)), (1, .ref (x.ad 9 p)), (1, .int cd), xo, xo, xo, xo, xo]) (by decide +kernel) rfl ⟨Nat.le_of_ble_eq_true rfl, rfl⟩ ?_
  unfold kPsh at hq
  refine x_aload_n 1 dX1_push_0 rfl rfl ?_
  refine x_geti 4 dX1_push_1 rfl fl_X1_208 (hT.ks.l9 (by omega)) ?_
  refine x_vi (w := I 9 p 1) rfl ?_
  refine x_iconst (v := 1) 5 dX1_push_4 rfl rfl ?_
  refine x_icmp_eq 9 8 dX1_push_5 (by decide) rfl (fun c5 => ?_) (fun c5 => ?_)
  · skip
    rw [if_pos c5] at hq
    refine x_aload_n 10 dX1_push_9 rfl rfl ?_
    refine x_callV (as := []) (rest := []) (i := p) (n' := n - 1) 13 dX1_push_10 rfl mv_X1_231 rfl rfl (hT.ks.l9 (by omega)) (xnh rfl) (by omega) (xst (Nat.le_of_ble_eq_true rfl)) (c_X10_hasGroup hT.ks (by omega) (by omega) ?_)
    change X _ _ _ _ _ _ _ _ _ _
    refine x_vi (w := b2i (pGrp I p)) rfl ?_
    refine x_if_eq 21 16 dX1_push_13 (by decide) rfl (fun c13 => ?_) (fun c13 => ?_)
    · skip
      have c13 : ¬ (pGrp I p) := b2i_0.mp c13
      rw [show kAbt x.N (I, R, th) p = (I, R, th) by unfold kAbt; rw [cif_f (show ¬ pGrp (I, R, th).1 p from c13)]] at hq
      exact s21_psh hT hK hp hmm (by omega) hq
    · skip
      have c13 : pGrp I p := b2i_n0.mp c13
      refine x_aload_n 17 dX1_push_16 rfl rfl ?_
      refine x_aload_n 18 dX1_push_17 rfl rfl ?_
      obtain ⟨q_, hqd⟩ : ∃ q : kK, q = kAbort x.N (I, R, th) p := ⟨_, rfl⟩
      have hKq : KI q_ x.N mm := by rw [hqd]; exact hK.abort
      refine x_callV (as := [.ref (x.ad 9 p)]) (rest := []) (i := 0) (n' := n - 1) 21 dX1_push_18 rfl mv_X1_353 rfl rfl (hT.ks.l0 (by omega)) (xnh rfl) (by omega) (xst (Nat.le_of_ble_eq_true rfl)) (c_X1_abort (p := p) hT hK (by omega) (by omega) (kAbN hqd ?_))
      · skip
        intro wq hUq
        change X _ _ _ _ _ _ _ _ _ _
        rw [show kAbt x.N (I, R, th) p = q_ by unfold kAbt; rw [cif_t (show pGrp (I, R, th).1 p from c13)]; exact hqd.symm] at hq
        exact s21_psh hUq hKq hp hmm (by omega) hq
  · skip
    rw [if_neg c5] at hq
    refine x_vreturn dX1_push_8 rfl ?_
    exact hq.ret hT
