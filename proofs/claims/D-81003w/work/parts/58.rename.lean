set_option maxRecDepth 100000
noncomputable def kLk (N me f : Nat) : Nat → kK → Nat → kO
  | 0, s, _ => (99, s)
  | n + 1, s, p => if p = 0 then (0, s) else if p = f then kRefuse s (-13) else
    if (kAccess N s me 4 (nI p) 0 0 0).1 = 0 then (if (kAccess N s me 4 (nI p) 0 0 0).2.1 6 p 2 = 0 then (0, (kAccess N s me 4 (nI p) 0 0 0).2) else kLk N me f n (kAccess N s me 4 (nI p) 0 0 0).2 (iN ((kAccess N s me 4 (nI p) 0 0 0).2.1 6 p 4)))
    else kAccess N s me 4 (nI p) 0 0 0
theorem KI.lk {N me f : Nat} (hN : N < 1000) : ∀ (n : Nat) {s : kK} {p m : Nat}, KI s N m → p < N → KI (kLk N me f n s p).2 N (m + n) ∧ kSx s (kLk N me f n s p).2
  | 0, s, p, m, h, _ => ⟨h, kSx.rfl⟩
  | n + 1, s, p, m, h, hp => by
    have hA := h.access (me := me) (x := 0) (y := 0) (w := 0) (hoaN (g := 4) (by omega) (kOf4 hp))
    unfold kLk
    split
    · exact ⟨h.le (by omega), kSx.rfl⟩
    · split
      · exact ⟨h.ref.le (by omega), sx_ref⟩
      · split
        · split
          · exact ⟨hA.le (by omega), sx_access⟩
          · have hu := (hA.wf.up p).2
            have ih := KI.lk (me := me) hN n (f := f) (p := iN ((kAccess N s me 4 (nI p) 0 0 0).2.1 6 p 4)) hA (by omega)
            exact ⟨ih.1.le (by omega), sx_access.trans ih.2⟩
        · exact ⟨hA.le (by omega), sx_access⟩
def kOv (Q : Outcome → xS → Prop) (x : kX) (r : kO) : Prop := ¬ r.1 = 99 ∧ kOut Q x r none
theorem dX1_lookUp_0 : decode cX1_lookUp 0 = .ok (.aload_n 2, 1) := by decide +kernel
theorem dX1_lookUp_1 : decode cX1_lookUp 1 = .ok (.astore_n 3, 1) := by decide +kernel
theorem dX1_lookUp_2 : decode cX1_lookUp 2 = .ok (.aload_n 3, 1) := by decide +kernel
theorem dX1_lookUp_3 : decode cX1_lookUp 3 = .ok (.getfield 448, 3) := by decide +kernel
theorem dX1_lookUp_6 : decode cX1_lookUp 6 = .ok (.ifCond .le 48, 3) := by decide +kernel
theorem dX1_lookUp_9 : decode cX1_lookUp 9 = .ok (.aload_n 3, 1) := by decide +kernel
theorem dX1_lookUp_10 : decode cX1_lookUp 10 = .ok (.aload_n 1, 1) := by decide +kernel
theorem dX1_lookUp_11 : decode cX1_lookUp 11 = .ok (.if_acmp .ne 13, 3) := by decide +kernel
theorem dX1_lookUp_14 : decode cX1_lookUp 14 = .ok (.aload_n 0, 1) := by decide +kernel
theorem dX1_lookUp_15 : decode cX1_lookUp 15 = .ok (.getfield 53, 3) := by decide +kernel
theorem dX1_lookUp_18 : decode cX1_lookUp 18 = .ok (.bipush (-13), 2) := by decide +kernel
theorem dX1_lookUp_20 : decode cX1_lookUp 20 = .ok (.invokevirtual 364, 3) := by decide +kernel
theorem dX1_lookUp_23 : decode cX1_lookUp 23 = .ok (.athrow, 1) := by decide +kernel
theorem dX1_lookUp_24 : decode cX1_lookUp 24 = .ok (.aload_n 0, 1) := by decide +kernel
theorem dX1_lookUp_25 : decode cX1_lookUp 25 = .ok (.iconst 4, 1) := by decide +kernel
theorem dX1_lookUp_26 : decode cX1_lookUp 26 = .ok (.aload_n 3, 1) := by decide +kernel
theorem dX1_lookUp_27 : decode cX1_lookUp 27 = .ok (.getfield 448, 3) := by decide +kernel
theorem dX1_lookUp_30 : decode cX1_lookUp 30 = .ok (.invokevirtual 650, 3) := by decide +kernel
theorem dX1_lookUp_33 : decode cX1_lookUp 33 = .ok (.aload_n 3, 1) := by decide +kernel
theorem dX1_lookUp_34 : decode cX1_lookUp 34 = .ok (.getfield 185, 3) := by decide +kernel
theorem dX1_lookUp_37 : decode cX1_lookUp 37 = .ok (.ifCond .ne 4, 3) := by decide +kernel
theorem dX1_lookUp_40 : decode cX1_lookUp 40 = .ok (.return_, 1) := by decide +kernel
theorem dX1_lookUp_41 : decode cX1_lookUp 41 = .ok (.aload_n 0, 1) := by decide +kernel
theorem dX1_lookUp_42 : decode cX1_lookUp 42 = .ok (.getfield 115, 3) := by decide +kernel
theorem dX1_lookUp_45 : decode cX1_lookUp 45 = .ok (.aload_n 3, 1) := by decide +kernel
theorem dX1_lookUp_46 : decode cX1_lookUp 46 = .ok (.getfield 300, 3) := by decide +kernel
theorem dX1_lookUp_49 : decode cX1_lookUp 49 = .ok (.aaload, 1) := by decide +kernel
theorem dX1_lookUp_50 : decode cX1_lookUp 50 = .ok (.astore_n 3, 1) := by decide +kernel
theorem dX1_lookUp_51 : decode cX1_lookUp 51 = .ok (.goto (-49), 3) := by decide +kernel
theorem dX1_lookUp_54 : decode cX1_lookUp 54 = .ok (.return_, 1) := by decide +kernel
set_option maxHeartbeats 4000000 in
set_option maxRecDepth 100000 in
theorem l_X1_lookUp {G : xG} {n a b : Nat} {Q : Outcome → xS → Prop} {x : kX} {f t me : Nat} (hf : f < x.N) (ht : t < x.N) (hme16 : me < 16) (hn : 9 ≤ n) : ∀ (u : Nat) {I : xI} {R : xR} {v : kV} {th : List xTh} {mm p : Nat}, KT x v th → KI (I, R, th) x.N mm → mm + u < 16384 → R 0 0 19 = some me → p < x.N → kOv Q x (kLk x.N me f u (I, R, th) p) → X G mX1_lookUp n a b Q (kS I R x v) 2 [(1, .ref (x.ad 0 0)), (1, .ref (x.ad 6 f)), (1, .ref (x.ad 6 t)), (1, .ref (x.ad 6 p))] [] := by
  intro u
  induction u with
  | zero => intro I R v th mm p hT hK hmm hme hpN hq; exact absurd rfl hq.1
  | succ u ih =>
    intro I R v th mm p hT hK hmm hme hpN hq
    have hnb := hT.ks.nb
    unfold kLk at hq
    refine x_aload_n 3 dX1_lookUp_2 rfl rfl ?_
    refine x_geti 6 dX1_lookUp_3 rfl fl_X1_448 (hT.ks.l6 (by omega)) ?_
    refine x_vi (w := I 6 p 0) rfl ?_
    refine x_vi (w := nI p) (hK.nm.1 p hpN) ?_
    refine x_if_le 54 9 dX1_lookUp_6 (by decide) rfl (fun c6 => ?_) (fun c6 => ?_)
    · skip
      rw [nI_le0 (by omega)] at c6
      rw [if_pos (by omega)] at hq
      refine x_vreturn dX1_lookUp_54 rfl ?_
      exact hq.2.1 rfl _ hT
    · skip
      rw [nI_le0 (by omega)] at c6
      rw [if_neg (by omega)] at hq
      refine x_aload_n 10 dX1_lookUp_9 rfl rfl ?_
      refine x_aload_n 11 dX1_lookUp_10 rfl rfl ?_
      refine x_asR ?_
      refine x_asR2 ?_
      refine x_acmp_ne (c := 6) 24 14 dX1_lookUp_11 (by decide) rfl (fun _ h => by cases h; exact (hT.ks.l6 (by omega))) (fun _ h => by cases h; exact (hT.ks.l6 (by omega))) (fun c11 => ?_) (fun c11 => ?_)
      · skip
        rw [if_neg (fun e => c11 (by rw [e]))] at hq
        refine x_aload_n 25 dX1_lookUp_24 rfl rfl ?_
        refine x_iconst (v := 4) 26 dX1_lookUp_25 rfl rfl ?_
        refine x_aload_n 27 dX1_lookUp_26 rfl rfl ?_
        refine x_geti 30 dX1_lookUp_27 rfl fl_X1_448 (hT.ks.l6 (by omega)) ?_
        refine x_vi (w := I 6 p 0) rfl ?_
        refine x_vi (w := nI p) (hK.nm.1 p hpN) ?_
        obtain ⟨r_1, hd1⟩ : ∃ r : kO, r = kAccess x.N (I, R, th) me 4 (nI p) 0 0 0 := ⟨_, rfl⟩
        rw [← hd1] at hq
        have hK_1 : KI r_1.2 x.N (mm + 1) := by rw [hd1]; exact hK.access (hoaN (g := 4) (by omega) (kOf4 hpN))
        refine x_callV (as := [.int 4, .int (nI p)]) (rest := []) (i := 0) (n' := n - 1) 33 dX1_lookUp_30 rfl mv_X1_650 rfl rfl (hT.ks.l0 (by omega)) (xnh rfl) (by omega) (xst (Nat.le_of_ble_eq_true rfl)) (c_X1_reads (g := 4) (oa := nI p) hT hK (hoaN (g := 4) (by omega) (kOf4 hpN)) (by omega) hme hme16 (by omega) (kOutN hd1 ⟨?_, ?_⟩))
        · skip
          intro hz1 w1 hU1
          change X _ _ _ _ _ _ _ _ _ _
          rw [if_pos hz1] at hq
          refine x_aload_n 34 dX1_lookUp_33 rfl rfl ?_
          refine x_geti 37 dX1_lookUp_34 rfl fl_X1_185 (hU1.ks.l6 (by omega)) ?_
          refine x_vi (w := r_1.2.1 6 p 2) rfl ?_
          refine x_if_ne 41 40 dX1_lookUp_37 (by decide) rfl (fun c37 => ?_) (fun c37 => ?_)
          · skip
            rw [if_neg c37] at hq
            have hup_ := hK_1.wf.up p
            have hup2 := hup_.2
            refine x_aload_n 42 dX1_lookUp_41 rfl rfl ?_
            refine x_getz 45 dX1_lookUp_42 rfl fl_X1_115 (hU1.ks.l0 (by omega)) (hU1.ks.z0_5 (by omega)) ?_
            refine x_aload_n 46 dX1_lookUp_45 rfl rfl ?_
            refine x_geti 49 dX1_lookUp_46 rfl fl_X1_300 (hU1.ks.l6 (by omega)) ?_
            refine x_vi (w := r_1.2.1 6 p 4) rfl ?_
            refine x_vi (w := nI (iN (r_1.2.1 6 p 4))) hup_.1 ?_
            refine x_aldz 50 dX1_lookUp_49 rfl ar_23 rfl (hU1.ks.l23 (by omega)) (xb (hU1.ks.n23 (by omega)) (by omega) (by omega)) (hU1.ks.z23 (by omega)) ?_
            refine x_astore_n 51 [(1, .ref (x.ad 0 0)), (1, .ref (x.ad 6 f)), (1, .ref (x.ad 6 t)), (1, .ref (x.ad 6 (iN (r_1.2.1 6 p 4))))] dX1_lookUp_50 rfl (by decide) rfl ?_
            refine x_goto 2 dX1_lookUp_51 (by decide) ?_
            exact ih hU1 hK_1 (by omega) (((hd1 ▸ sx_access : kSx (I, R, th) r_1.2).2 0 0 19 rfl).trans hme) (by omega) hq
          · skip
            rw [if_pos c37] at hq
            refine x_vreturn dX1_lookUp_40 rfl ?_
            exact hq.2.1 rfl _ hU1
        · skip
          intro hz1 w1 hU1
          rw [if_neg hz1] at hq
          exact hq.2.2 hz1 _ hU1
      · skip
        rw [if_pos (Option.some.inj c11)] at hq
        refine x_aload_n 15 dX1_lookUp_14 rfl rfl ?_
        refine x_getz 18 dX1_lookUp_15 rfl fl_X1_53 (hT.ks.l0 (by omega)) (hT.ks.z0_10 (by omega)) ?_
        refine x_bipush (v := -13) 20 dX1_lookUp_18 rfl rfl ?_
        refine x_callV (as := [.int (-13)]) (rest := []) (i := 0) (n' := n - 1) 23 dX1_lookUp_20 rfl mv_X1_364 rfl rfl (hT.ks.l3 (by omega)) (xnh rfl) (by omega) (xst (Nat.le_of_ble_eq_true rfl)) (c_X4_by hT.ks (by omega) ?_)
        change X _ _ _ _ _ _ _ _ _ _
        refine k_nmA (v := v) (A1 := (xu I 3 0 0 ((-13)))) (by (repeat (first | rw [kI_xu] | rw [kI_xur] | rw [kI_xfil])) <;> rfl) fun I1 hI1 => ?_
        refine x_athrow dX1_lookUp_23 (xnh rfl) ?_
        rw [hI1]
        exact hq.2.2 (show ¬ (-13 : Int32) = 0 by decide) _ hT
set_option maxHeartbeats 4000000 in
set_option maxRecDepth 100000 in
theorem c_X1_lookUp {G : xG} {n : Nat} {Q : Outcome → xS → Prop} {x : kX} {I : xI} {R : xR} {v : kV} {th : List xTh} {mm : Nat} (hT : KT x v th) (hK : KI (I, R, th) x.N mm) {f t me u : Nat} (hf : f < x.N) (ht : t < x.N) (hmm : mm + u < 16384) (hme : R 0 0 19 = some me) (hme16 : me < 16) (hn : 9 ≤ n) (hq : kOv Q x (kLk x.N me f u (I, R, th) t)) : xCall G mX1_lookUp n [.ref (x.ad 0 0), .ref (x.ad 6 f), .ref (x.ad 6 t)] (kS I R x v) Q := by
  refine x_met (L0 := [(1, .ref (x.ad 0 0)), (1, .ref (x.ad 6 f)), (1, .ref (x.ad 6 t)), xo]) (by decide +kernel) rfl ⟨Nat.le_of_ble_eq_true rfl, rfl⟩ ?_
  refine x_aload_n 1 dX1_lookUp_0 rfl rfl ?_
  refine x_astore_n 2 [(1, .ref (x.ad 0 0)), (1, .ref (x.ad 6 f)), (1, .ref (x.ad 6 t)), (1, .ref (x.ad 6 t))] dX1_lookUp_1 rfl (by decide) rfl ?_
  exact l_X1_lookUp hf ht hme16 hn u hT hK hmm hme ht hq
theorem kOvN {Q : Outcome → xS → Prop} {x : kX} {r t : kO} (h : r = t) (k : kOv Q x r) : kOv Q x t := by rw [← h]; exact k
noncomputable def kRnE (A : xI) (f : Nat) (g : Option Nat) : xI := match g with
  | none => A
  | some g => cif (iDir A g) (kDropD A g) (xu A 6 g 2 (A 6 g 2 - 1))
noncomputable def kRnF (A : xI) (f t : Nat) : xI := cif (iDir A f) (xu A 6 f 4 (nI t)) A
/-- from where all is written -/
noncomputable def kRn5 (s : kK) (tp : Nat → Int32) (fr lg : Nat → Nat) (st : Nat) (fr2 lg2 : Nat → Nat) (st2 d f t q : Nat) (g : Option Nat) : kQ :=
  kAs (¬ kSlt (pPut s.1 fr2 lg2 (st2 - 1) t q f, s.2.1, s.2.2) d tp fr lg st = -1) s
    (kRt (kRnF (kRnE (kDrp (pPut s.1 fr2 lg2 (st2 - 1) t q f) d (iN (kSlt (pPut s.1 fr2 lg2 (st2 - 1) t q f, s.2.1, s.2.2) d tp fr lg st))) f g) f t, s.2.1, s.2.2) 0)
noncomputable def kRn4 (N : Nat) (s : kK) (me : Nat) (tp : Nat → Int32) (fr lg : Nat → Nat) (st : Nat) (fr2 lg2 : Nat → Nat) (st2 d f t q : Nat) (g : Option Nat) : kQ :=
  cif (iDir s.1 f) (kU (kAccess N s me 4 (nI f) 0 0 1) fun s => kRn5 s tp fr lg st fr2 lg2 st2 d f t q g) (kRn5 s tp fr lg st fr2 lg2 st2 d f t q g)
noncomputable def kRn3 (N : Nat) (s : kK) (me : Nat) (tp : Nat → Int32) (fr lg : Nat → Nat) (st : Nat) (fr2 lg2 : Nat → Nat) (st2 d f t : Nat) (g : Option Nat) : kQ :=
  kU (kAccE N s me tp fr lg (st - 1) d 1) fun s => kU (kAccE N s me tp fr2 lg2 (st2 - 1) t 1) fun s => match g with
    | none => if iFreeSlot s.1 t = -1 then kRf s (-6) else kRn4 N s me tp fr lg st fr2 lg2 st2 d f t (iN (iFreeSlot s.1 t)) none
    | some g => if kSlt s t tp fr2 lg2 st2 = -1 then kRf s (-6) else kU (kAccess N s me (cif (iDir s.1 g) 4 1) (nI g) 0 0 1) fun s' => kRn4 N s' me tp fr lg st fr2 lg2 st2 d f t (iN (kSlt s t tp fr2 lg2 st2)) (some g)
noncomputable def kRn2 (N : Nat) (s : kK) (me : Nat) (tp : Nat → Int32) (fr lg : Nat → Nat) (st : Nat) (fr2 lg2 : Nat → Nat) (st2 d f t g : Nat) : kQ :=
  cif (iDir s.1 g ∧ 0 < iEntries s.1 g) (kRf s (-12)) (kRn3 N s me tp fr lg st fr2 lg2 st2 d f t (some g))
noncomputable def kRn1 (N : Nat) (s : kK) (me : Nat) (tp : Nat → Int32) (fr lg : Nat → Nat) (st : Nat) (fr2 lg2 : Nat → Nat) (st2 d f t : Nat) (g : Option Nat) : kQ := match g with
  | none => kRn3 N s me tp fr lg st fr2 lg2 st2 d f t none
  | some g => if s.1 6 f 1 = s.1 6 g 1 then cif (iDir s.1 g) (kU (kAccess N s me 3 (nI g) 0 0 0) fun s => kRn2 N s me tp fr lg st fr2 lg2 st2 d f t g) (kRn2 N s me tp fr lg st fr2 lg2 st2 d f t g) else kRf s (-4)
noncomputable def kDoRen (N : Nat) (s : kK) (me : Nat) (tp : Nat → Int32) (fr lg : Nat → Nat) (st : Nat) (fr2 lg2 : Nat → Nat) (st2 : Nat) : kQ :=
  kB (kLst N s me 0 tp fr lg st) fun s d => match iEntry s.1 d tp (fr (st - 1)) (lg (st - 1)) with
    | none => kRf s (-2)
    | some f => kB (kLst N s me 1 tp fr2 lg2 st2) fun s t => if iEntry s.1 t tp (fr2 (st2 - 1)) (lg2 (st2 - 1)) = some f then kRt s 0 else
      if iNamesFor s.1 t (s.1 0 0 21) = 0 then kRf s (-2) else cif (iDir s.1 f) (kU (kLk N me f 64 s t) fun s' => kRn1 N s' me tp fr lg st fr2 lg2 st2 d f t (iEntry s.1 t tp (fr2 (st2 - 1)) (lg2 (st2 - 1)))) (kRn1 N s me tp fr lg st fr2 lg2 st2 d f t (iEntry s.1 t tp (fr2 (st2 - 1)) (lg2 (st2 - 1))))
theorem kI_kRnF {A t : xI} {f d : Nat} : kRnF (kI A t) f d = kI (kRnF A f d) t := by unfold kRnF; rw [kI_xu (c := 6) rfl]; exact kI_cif
theorem dX1_doRename_0 : decode cX1_doRename 0 = .ok (.aload_n 0, 1) := by decide +kernel
theorem dX1_doRename_1 : decode cX1_doRename 1 = .ok (.getfield 76, 3) := by decide +kernel
theorem dX1_doRename_4 : decode cX1_doRename 4 = .ok (.invokevirtual 616, 3) := by decide +kernel
theorem dX1_doRename_7 : decode cX1_doRename 7 = .ok (.astore_n 1, 1) := by decide +kernel
theorem dX1_doRename_8 : decode cX1_doRename 8 = .ok (.aload_n 0, 1) := by decide +kernel
theorem dX1_doRename_9 : decode cX1_doRename 9 = .ok (.getfield 76, 3) := by decide +kernel
theorem dX1_doRename_12 : decode cX1_doRename 12 = .ok (.aload_n 1, 1) := by decide +kernel
theorem dX1_doRename_13 : decode cX1_doRename 13 = .ok (.invokevirtual 619, 3) := by decide +kernel
theorem dX1_doRename_16 : decode cX1_doRename 16 = .ok (.astore_n 2, 1) := by decide +kernel
theorem dX1_doRename_17 : decode cX1_doRename 17 = .ok (.aload_n 2, 1) := by decide +kernel
theorem dX1_doRename_18 : decode cX1_doRename 18 = .ok (.ifnonnull 13, 3) := by decide +kernel
theorem dX1_doRename_21 : decode cX1_doRename 21 = .ok (.aload_n 0, 1) := by decide +kernel
theorem dX1_doRename_22 : decode cX1_doRename 22 = .ok (.getfield 53, 3) := by decide +kernel
theorem dX1_doRename_25 : decode cX1_doRename 25 = .ok (.bipush (-2), 2) := by decide +kernel
theorem dX1_doRename_27 : decode cX1_doRename 27 = .ok (.invokevirtual 364, 3) := by decide +kernel
theorem dX1_doRename_30 : decode cX1_doRename 30 = .ok (.athrow, 1) := by decide +kernel
theorem dX1_doRename_31 : decode cX1_doRename 31 = .ok (.aload_n 0, 1) := by decide +kernel
theorem dX1_doRename_32 : decode cX1_doRename 32 = .ok (.getfield 80, 3) := by decide +kernel
theorem dX1_doRename_35 : decode cX1_doRename 35 = .ok (.invokevirtual 616, 3) := by decide +kernel
theorem dX1_doRename_38 : decode cX1_doRename 38 = .ok (.astore_n 3, 1) := by decide +kernel
theorem dX1_doRename_39 : decode cX1_doRename 39 = .ok (.aload_n 0, 1) := by decide +kernel
theorem dX1_doRename_40 : decode cX1_doRename 40 = .ok (.getfield 80, 3) := by decide +kernel
theorem dX1_doRename_43 : decode cX1_doRename 43 = .ok (.aload_n 3, 1) := by decide +kernel
theorem dX1_doRename_44 : decode cX1_doRename 44 = .ok (.invokevirtual 619, 3) := by decide +kernel
theorem dX1_doRename_47 : decode cX1_doRename 47 = .ok (.astore 4, 2) := by decide +kernel
theorem dX1_doRename_49 : decode cX1_doRename 49 = .ok (.aload 4, 2) := by decide +kernel
theorem dX1_doRename_51 : decode cX1_doRename 51 = .ok (.aload_n 2, 1) := by decide +kernel
theorem dX1_doRename_52 : decode cX1_doRename 52 = .ok (.if_acmp .ne 5, 3) := by decide +kernel
theorem dX1_doRename_55 : decode cX1_doRename 55 = .ok (.iconst 0, 1) := by decide +kernel
theorem dX1_doRename_56 : decode cX1_doRename 56 = .ok (.ireturn, 1) := by decide +kernel
theorem dX1_doRename_57 : decode cX1_doRename 57 = .ok (.aload_n 3, 1) := by decide +kernel
theorem dX1_doRename_58 : decode cX1_doRename 58 = .ok (.aload_n 0, 1) := by decide +kernel
theorem dX1_doRename_59 : decode cX1_doRename 59 = .ok (.getfield 291, 3) := by decide +kernel
theorem dX1_doRename_62 : decode cX1_doRename 62 = .ok (.invokevirtual 677, 3) := by decide +kernel
theorem dX1_doRename_65 : decode cX1_doRename 65 = .ok (.ifCond .ne 13, 3) := by decide +kernel
theorem dX1_doRename_68 : decode cX1_doRename 68 = .ok (.aload_n 0, 1) := by decide +kernel
theorem dX1_doRename_69 : decode cX1_doRename 69 = .ok (.getfield 53, 3) := by decide +kernel
theorem dX1_doRename_72 : decode cX1_doRename 72 = .ok (.bipush (-2), 2) := by decide +kernel
theorem dX1_doRename_74 : decode cX1_doRename 74 = .ok (.invokevirtual 364, 3) := by decide +kernel
theorem dX1_doRename_77 : decode cX1_doRename 77 = .ok (.athrow, 1) := by decide +kernel
theorem dX1_doRename_78 : decode cX1_doRename 78 = .ok (.aload_n 2, 1) := by decide +kernel
theorem dX1_doRename_79 : decode cX1_doRename 79 = .ok (.invokevirtual 403, 3) := by decide +kernel
theorem dX1_doRename_82 : decode cX1_doRename 82 = .ok (.ifCond .eq 9, 3) := by decide +kernel
theorem dX1_doRename_85 : decode cX1_doRename 85 = .ok (.aload_n 0, 1) := by decide +kernel
theorem dX1_doRename_86 : decode cX1_doRename 86 = .ok (.aload_n 2, 1) := by decide +kernel
theorem dX1_doRename_87 : decode cX1_doRename 87 = .ok (.aload_n 3, 1) := by decide +kernel
theorem dX1_doRename_88 : decode cX1_doRename 88 = .ok (.invokevirtual 685, 3) := by decide +kernel
theorem dX1_doRename_91 : decode cX1_doRename 91 = .ok (.aload 4, 2) := by decide +kernel
theorem dX1_doRename_93 : decode cX1_doRename 93 = .ok (.ifnull 69, 3) := by decide +kernel
theorem dX1_doRename_96 : decode cX1_doRename 96 = .ok (.aload_n 2, 1) := by decide +kernel
theorem dX1_doRename_97 : decode cX1_doRename 97 = .ok (.getfield 182, 3) := by decide +kernel
theorem dX1_doRename_100 : decode cX1_doRename 100 = .ok (.aload 4, 2) := by decide +kernel
theorem dX1_doRename_102 : decode cX1_doRename 102 = .ok (.getfield 182, 3) := by decide +kernel
theorem dX1_doRename_105 : decode cX1_doRename 105 = .ok (.if_icmp .eq 13, 3) := by decide +kernel
theorem dX1_doRename_108 : decode cX1_doRename 108 = .ok (.aload_n 0, 1) := by decide +kernel
theorem dX1_doRename_109 : decode cX1_doRename 109 = .ok (.getfield 53, 3) := by decide +kernel
theorem dX1_doRename_112 : decode cX1_doRename 112 = .ok (.bipush (-4), 2) := by decide +kernel
theorem dX1_doRename_114 : decode cX1_doRename 114 = .ok (.invokevirtual 364, 3) := by decide +kernel
theorem dX1_doRename_117 : decode cX1_doRename 117 = .ok (.athrow, 1) := by decide +kernel
theorem dX1_doRename_118 : decode cX1_doRename 118 = .ok (.aload 4, 2) := by decide +kernel
theorem dX1_doRename_120 : decode cX1_doRename 120 = .ok (.invokevirtual 403, 3) := by decide +kernel
theorem dX1_doRename_123 : decode cX1_doRename 123 = .ok (.ifCond .eq 13, 3) := by decide +kernel
theorem dX1_doRename_126 : decode cX1_doRename 126 = .ok (.aload_n 0, 1) := by decide +kernel
theorem dX1_doRename_127 : decode cX1_doRename 127 = .ok (.iconst 3, 1) := by decide +kernel
theorem dX1_doRename_128 : decode cX1_doRename 128 = .ok (.aload 4, 2) := by decide +kernel
theorem dX1_doRename_130 : decode cX1_doRename 130 = .ok (.getfield 448, 3) := by decide +kernel
theorem dX1_doRename_133 : decode cX1_doRename 133 = .ok (.invokevirtual 650, 3) := by decide +kernel
theorem dX1_doRename_136 : decode cX1_doRename 136 = .ok (.aload 4, 2) := by decide +kernel
theorem dX1_doRename_138 : decode cX1_doRename 138 = .ok (.invokevirtual 403, 3) := by decide +kernel
theorem dX1_doRename_141 : decode cX1_doRename 141 = .ok (.ifCond .eq 21, 3) := by decide +kernel
theorem dX1_doRename_144 : decode cX1_doRename 144 = .ok (.aload 4, 2) := by decide +kernel
theorem dX1_doRename_146 : decode cX1_doRename 146 = .ok (.invokevirtual 671, 3) := by decide +kernel
theorem dX1_doRename_149 : decode cX1_doRename 149 = .ok (.ifCond .le 13, 3) := by decide +kernel
theorem dX1_doRename_152 : decode cX1_doRename 152 = .ok (.aload_n 0, 1) := by decide +kernel
theorem dX1_doRename_153 : decode cX1_doRename 153 = .ok (.getfield 53, 3) := by decide +kernel
theorem dX1_doRename_156 : decode cX1_doRename 156 = .ok (.bipush (-12), 2) := by decide +kernel
theorem dX1_doRename_158 : decode cX1_doRename 158 = .ok (.invokevirtual 364, 3) := by decide +kernel
theorem dX1_doRename_161 : decode cX1_doRename 161 = .ok (.athrow, 1) := by decide +kernel
theorem dX1_doRename_162 : decode cX1_doRename 162 = .ok (.aload_n 0, 1) := by decide +kernel
theorem dX1_doRename_163 : decode cX1_doRename 163 = .ok (.getfield 76, 3) := by decide +kernel
theorem dX1_doRename_166 : decode cX1_doRename 166 = .ok (.aload_n 0, 1) := by decide +kernel
theorem dX1_doRename_167 : decode cX1_doRename 167 = .ok (.getfield 76, 3) := by decide +kernel
theorem dX1_doRename_170 : decode cX1_doRename 170 = .ok (.getfield 658, 3) := by decide +kernel
theorem dX1_doRename_173 : decode cX1_doRename 173 = .ok (.iconst 1, 1) := by decide +kernel
theorem dX1_doRename_174 : decode cX1_doRename 174 = .ok (.isub, 1) := by decide +kernel
theorem dX1_doRename_175 : decode cX1_doRename 175 = .ok (.aload_n 1, 1) := by decide +kernel
theorem dX1_doRename_176 : decode cX1_doRename 176 = .ok (.iconst 1, 1) := by decide +kernel
theorem dX1_doRename_177 : decode cX1_doRename 177 = .ok (.invokevirtual 661, 3) := by decide +kernel
theorem dX1_doRename_180 : decode cX1_doRename 180 = .ok (.aload_n 0, 1) := by decide +kernel
theorem dX1_doRename_181 : decode cX1_doRename 181 = .ok (.getfield 80, 3) := by decide +kernel
theorem dX1_doRename_184 : decode cX1_doRename 184 = .ok (.aload_n 0, 1) := by decide +kernel
theorem dX1_doRename_185 : decode cX1_doRename 185 = .ok (.getfield 80, 3) := by decide +kernel
theorem dX1_doRename_188 : decode cX1_doRename 188 = .ok (.getfield 658, 3) := by decide +kernel
theorem dX1_doRename_191 : decode cX1_doRename 191 = .ok (.iconst 1, 1) := by decide +kernel
theorem dX1_doRename_192 : decode cX1_doRename 192 = .ok (.isub, 1) := by decide +kernel
theorem dX1_doRename_193 : decode cX1_doRename 193 = .ok (.aload_n 3, 1) := by decide +kernel
theorem dX1_doRename_194 : decode cX1_doRename 194 = .ok (.iconst 1, 1) := by decide +kernel
theorem dX1_doRename_195 : decode cX1_doRename 195 = .ok (.invokevirtual 661, 3) := by decide +kernel
theorem dX1_doRename_198 : decode cX1_doRename 198 = .ok (.aload 4, 2) := by decide +kernel
theorem dX1_doRename_200 : decode cX1_doRename 200 = .ok (.ifnonnull 10, 3) := by decide +kernel
theorem dX1_doRename_203 : decode cX1_doRename 203 = .ok (.aload_n 3, 1) := by decide +kernel
theorem dX1_doRename_204 : decode cX1_doRename 204 = .ok (.invokevirtual 689, 3) := by decide +kernel
theorem dX1_doRename_207 : decode cX1_doRename 207 = .ok (.goto 11, 3) := by decide +kernel
theorem dX1_doRename_210 : decode cX1_doRename 210 = .ok (.aload_n 0, 1) := by decide +kernel
theorem dX1_doRename_211 : decode cX1_doRename 211 = .ok (.getfield 80, 3) := by decide +kernel
theorem dX1_doRename_214 : decode cX1_doRename 214 = .ok (.aload_n 3, 1) := by decide +kernel
theorem dX1_doRename_215 : decode cX1_doRename 215 = .ok (.invokevirtual 652, 3) := by decide +kernel
theorem dX1_doRename_218 : decode cX1_doRename 218 = .ok (.istore 5, 2) := by decide +kernel
theorem dX1_doRename_220 : decode cX1_doRename 220 = .ok (.iload 5, 2) := by decide +kernel
theorem dX1_doRename_222 : decode cX1_doRename 222 = .ok (.iconst (-1), 1) := by decide +kernel
theorem dX1_doRename_223 : decode cX1_doRename 223 = .ok (.if_icmp .ne 13, 3) := by decide +kernel
theorem dX1_doRename_226 : decode cX1_doRename 226 = .ok (.aload_n 0, 1) := by decide +kernel
theorem dX1_doRename_227 : decode cX1_doRename 227 = .ok (.getfield 53, 3) := by decide +kernel
theorem dX1_doRename_230 : decode cX1_doRename 230 = .ok (.bipush (-6), 2) := by decide +kernel
theorem dX1_doRename_232 : decode cX1_doRename 232 = .ok (.invokevirtual 364, 3) := by decide +kernel
theorem dX1_doRename_235 : decode cX1_doRename 235 = .ok (.athrow, 1) := by decide +kernel
theorem dX1_doRename_236 : decode cX1_doRename 236 = .ok (.aload 4, 2) := by decide +kernel
theorem dX1_doRename_238 : decode cX1_doRename 238 = .ok (.ifnull 25, 3) := by decide +kernel
theorem dX1_doRename_241 : decode cX1_doRename 241 = .ok (.aload_n 0, 1) := by decide +kernel
theorem dX1_doRename_242 : decode cX1_doRename 242 = .ok (.aload 4, 2) := by decide +kernel
theorem dX1_doRename_244 : decode cX1_doRename 244 = .ok (.invokevirtual 403, 3) := by decide +kernel
theorem dX1_doRename_247 : decode cX1_doRename 247 = .ok (.ifCond .eq 7, 3) := by decide +kernel
theorem dX1_doRename_250 : decode cX1_doRename 250 = .ok (.iconst 4, 1) := by decide +kernel
theorem dX1_doRename_251 : decode cX1_doRename 251 = .ok (.goto 4, 3) := by decide +kernel
theorem dX1_doRename_254 : decode cX1_doRename 254 = .ok (.iconst 1, 1) := by decide +kernel
theorem dX1_doRename_255 : decode cX1_doRename 255 = .ok (.aload 4, 2) := by decide +kernel
theorem dX1_doRename_257 : decode cX1_doRename 257 = .ok (.getfield 448, 3) := by decide +kernel
theorem dX1_doRename_260 : decode cX1_doRename 260 = .ok (.invokevirtual 588, 3) := by decide +kernel
theorem dX1_doRename_263 : decode cX1_doRename 263 = .ok (.aload_n 2, 1) := by decide +kernel
theorem dX1_doRename_264 : decode cX1_doRename 264 = .ok (.invokevirtual 403, 3) := by decide +kernel
theorem dX1_doRename_267 : decode cX1_doRename 267 = .ok (.ifCond .eq 12, 3) := by decide +kernel
theorem dX1_doRename_270 : decode cX1_doRename 270 = .ok (.aload_n 0, 1) := by decide +kernel
theorem dX1_doRename_271 : decode cX1_doRename 271 = .ok (.iconst 4, 1) := by decide +kernel
theorem dX1_doRename_272 : decode cX1_doRename 272 = .ok (.aload_n 2, 1) := by decide +kernel
theorem dX1_doRename_273 : decode cX1_doRename 273 = .ok (.getfield 448, 3) := by decide +kernel
theorem dX1_doRename_276 : decode cX1_doRename 276 = .ok (.invokevirtual 588, 3) := by decide +kernel
theorem dX1_doRename_279 : decode cX1_doRename 279 = .ok (.aload_n 0, 1) := by decide +kernel
theorem dX1_doRename_280 : decode cX1_doRename 280 = .ok (.getfield 80, 3) := by decide +kernel
theorem dX1_doRename_283 : decode cX1_doRename 283 = .ok (.aload_n 3, 1) := by decide +kernel
theorem dX1_doRename_284 : decode cX1_doRename 284 = .ok (.iload 5, 2) := by decide +kernel
theorem dX1_doRename_286 : decode cX1_doRename 286 = .ok (.aload_n 2, 1) := by decide +kernel
theorem dX1_doRename_287 : decode cX1_doRename 287 = .ok (.invokevirtual 682, 3) := by decide +kernel
theorem dX1_doRename_290 : decode cX1_doRename 290 = .ok (.aload_n 0, 1) := by decide +kernel
theorem dX1_doRename_291 : decode cX1_doRename 291 = .ok (.aload_n 0, 1) := by decide +kernel
theorem dX1_doRename_292 : decode cX1_doRename 292 = .ok (.getfield 76, 3) := by decide +kernel
theorem dX1_doRename_295 : decode cX1_doRename 295 = .ok (.aload_n 1, 1) := by decide +kernel
theorem dX1_doRename_296 : decode cX1_doRename 296 = .ok (.invokevirtual 664, 3) := by decide +kernel
theorem dX1_doRename_299 : decode cX1_doRename 299 = .ok (.aload 4, 2) := by decide +kernel
theorem dX1_doRename_301 : decode cX1_doRename 301 = .ok (.ifnull 20, 3) := by decide +kernel
theorem dX1_doRename_304 : decode cX1_doRename 304 = .ok (.aload 4, 2) := by decide +kernel
theorem dX1_doRename_306 : decode cX1_doRename 306 = .ok (.invokevirtual 403, 3) := by decide +kernel
theorem dX1_doRename_309 : decode cX1_doRename 309 = .ok (.ifCond .eq 12, 3) := by decide +kernel
theorem dX1_doRename_312 : decode cX1_doRename 312 = .ok (.aload_n 0, 1) := by decide +kernel
theorem dX1_doRename_313 : decode cX1_doRename 313 = .ok (.aload 4, 2) := by decide +kernel
theorem dX1_doRename_315 : decode cX1_doRename 315 = .ok (.invokevirtual 674, 3) := by decide +kernel
theorem dX1_doRename_318 : decode cX1_doRename 318 = .ok (.goto 14, 3) := by decide +kernel
theorem dX1_doRename_321 : decode cX1_doRename 321 = .ok (.aload 4, 2) := by decide +kernel
theorem dX1_doRename_323 : decode cX1_doRename 323 = .ok (.ifnull 9, 3) := by decide +kernel
theorem dX1_doRename_326 : decode cX1_doRename 326 = .ok (.aload_n 0, 1) := by decide +kernel
theorem dX1_doRename_327 : decode cX1_doRename 327 = .ok (.aload 4, 2) := by decide +kernel
theorem dX1_doRename_329 : decode cX1_doRename 329 = .ok (.invokevirtual 667, 3) := by decide +kernel
theorem dX1_doRename_332 : decode cX1_doRename 332 = .ok (.aload_n 2, 1) := by decide +kernel
theorem dX1_doRename_333 : decode cX1_doRename 333 = .ok (.invokevirtual 403, 3) := by decide +kernel
theorem dX1_doRename_336 : decode cX1_doRename 336 = .ok (.ifCond .eq 11, 3) := by decide +kernel
theorem dX1_doRename_339 : decode cX1_doRename 339 = .ok (.aload_n 2, 1) := by decide +kernel
theorem dX1_doRename_340 : decode cX1_doRename 340 = .ok (.aload_n 3, 1) := by decide +kernel
theorem dX1_doRename_341 : decode cX1_doRename 341 = .ok (.getfield 448, 3) := by decide +kernel
theorem dX1_doRename_344 : decode cX1_doRename 344 = .ok (.putfield 300, 3) := by decide +kernel
theorem dX1_doRename_347 : decode cX1_doRename 347 = .ok (.iconst 0, 1) := by decide +kernel
theorem dX1_doRename_348 : decode cX1_doRename 348 = .ok (.ireturn, 1) := by decide +kernel
theorem pPut_c {A : xI} {fr lg : Nat → Nat} {k d s f c i j : Nat} (h1 : c ≠ 41) (h2 : c ≠ 42) (h3 : c ≠ 43) : pPut A fr lg k d s f c i j = A c i j := by unfold pPut iName; rw [xu_c h2, xu_c h1, xfil_c h3]
theorem PS.put {A : xI} {i n : Nat} {fr lg fr2 lg2 : Nat → Nat} {k d s f : Nat} (h : PS A i n fr lg) : PS (pPut A fr2 lg2 k d s f) i n fr lg :=
  ⟨(pPut_c (by decide) (by decide) (by decide)).trans h.1, h.2.1, fun t ht => ⟨(pPut_c (by decide) (by decide) (by decide)).trans (h.2.2 t ht).1, (pPut_c (by decide) (by decide) (by decide)).trans (h.2.2 t ht).2.1, (h.2.2 t ht).2.2⟩⟩
theorem kDrp_c {A : xI} {d q c i j : Nat} (h1 : c ≠ 41) (h2 : c ≠ 42) : kDrp A d q c i j = A c i j := by unfold kDrp; rw [xu_c h2, xu_c h1]
theorem kDropD_0 {A : xI} {g j k : Nat} (h : k = 0 ∨ k = 1) : kDropD A g 6 j k = A 6 j k := by
  unfold kDropD
  rw [xu_k (by omega), xu_k (by omega)]
  split
  · rfl
  · rw [xu_k (by omega)]
set_option maxHeartbeats 4000000 in
set_option maxRecDepth 100000 in
theorem s279_ren_none {G : xG} {n a b : Nat} {Q : Outcome → xS → Prop} {x : kX} {I : xI} {R : xR} {v : kV} {th : List xTh} {mm : Nat} (hT : KT x v th) (hK : KI (I, R, th) x.N mm) {st : Nat} {fr lg : Nat → Nat} (hp : PS I 0 st fr lg) {tp : Nat → Int32} (htp : I 27 0 = tp) {st2 : Nat} {fr2 lg2 : Nat → Nat} (hp2 : PS I 1 st2 fr2 lg2) (h1 : 1 ≤ st) (h12 : 1 ≤ st2) {d f t : Nat} (hdN : d < x.N) (hfN : f < x.N) (htN : t < x.N) {q : Nat} (hq5 : q < 512) (hmm : mm + 10 < 16384) {me : Nat} (hme : R 0 0 19 = some me) (hme16 : me < 16) (hn : 12 ≤ n) (hq : kOs Q x (kRn5 (I, R, th) tp fr lg st fr2 lg2 st2 d f t q none)) : X G mX1_doRename n a b Q (kS I R x v) 279 [(1, .ref (x.ad 0 0)), (1, .ref (x.ad 6 d)), (1, .ref (x.ad 6 f)), (1, .ref (x.ad 6 t)), (1, va_re (x.ad 6) none), (1, .int (nI q))] [] := by
  have hnb := hT.ks.nb
  unfold kRn5 at hq
  have hp12 := hp.2.1
  have hp22 := hp2.2.1
  refine x_aload_n 280 dX1_doRename_279 rfl rfl ?_
  refine x_getz 283 dX1_doRename_280 rfl fl_X1_80 (hT.ks.l0 (by omega)) (hT.ks.z0_24 (by omega)) ?_
  refine x_aload_n 284 dX1_doRename_283 rfl rfl ?_
  refine x_iload 286 dX1_doRename_284 rfl rfl ?_
  refine x_aload_n 287 dX1_doRename_286 rfl rfl ?_
  refine x_callV (as := [.ref (x.ad 6 t), .int (nI q), .ref (x.ad 6 f)]) (rest := []) (i := 1) (n' := n - 1) 290 dX1_doRename_287 rfl mv_X1_682 rfl rfl (hT.ks.l4 (by omega)) (xnh rfl) (by omega) (xst (Nat.le_of_ble_eq_true rfl)) (c_X5_put (I := kI I v.t) (i := 1) (fr := fr2) (lg := lg2) (d := t) (f := f) hT.ks (by omega) hp2 (by omega) (by omega) (by omega) (by omega) (hK.nm.1 f (by omega)) (by omega) ?_)
  change X _ _ _ _ _ _ _ _ _ _
  refine k_nmA (v := v) (A1 := (pPut I fr2 lg2 (st2 - 1) t q f)) kI_pPut fun I1 hI1 => ?_
  have hpP : PS I1 0 st fr lg := by rw [hI1]; exact hp.put
  have htP : I1 27 0 = tp := by rw [hI1, ← htp]; funext j_; exact pPut_c (by decide) (by decide) (by decide)
  obtain ⟨hsl_, hq⟩ := hq.as
  rw [← hI1] at hsl_ hq
  have hsl2 := kSlt_n hsl_
  refine x_aload_n 291 dX1_doRename_290 rfl rfl ?_
  refine x_aload_n 292 dX1_doRename_291 rfl rfl ?_
  refine x_getz 295 dX1_doRename_292 rfl fl_X1_76 (hT.ks.l0 (by omega)) (hT.ks.z0_23 (by omega)) ?_
  refine x_aload_n 296 dX1_doRename_295 rfl rfl ?_
  refine x_callV (as := [.ref (x.ad 4 0), .ref (x.ad 6 d)]) (rest := []) (i := 0) (n' := n - 1) 299 dX1_doRename_296 rfl mv_X1_664 rfl rfl (hT.ks.l0 (by omega)) (xnh rfl) (by omega) (xst (Nat.le_of_ble_eq_true rfl)) (c_X1_drop (I := kI I1 v.t) (i := 0) (fr := fr) (lg := lg) (d := d) (s := (iN (kSlt (I1, R, th) d tp fr lg st))) hT.ks (by omega) (show PS I1 0 st fr lg from hpP) (by omega) (by omega) hsl2.1 (by rw [show kI I1 v.t 27 0 = tp from htP]; exact hsl2.2) (by omega) ?_)
  change X _ _ _ _ _ _ _ _ _ _
  refine k_nmA (v := v) (A1 := (kDrp I1 d (iN (kSlt (I1, R, th) d tp fr lg st)))) kI_kDrp fun I2 hI2 => ?_
  refine x_aload_r 301 dX1_doRename_299 rfl rfl ?_
  refine x_ifnull 321 304 dX1_doRename_301 (by decide) rfl (fun _ => ?_) (fun j hj => absurd (rfl.symm.trans hj) (by simp))
  refine x_aload_r 323 dX1_doRename_321 rfl rfl ?_
  refine x_ifnull 332 326 dX1_doRename_323 (by decide) rfl (fun _ => ?_) (fun j hj => absurd (rfl.symm.trans hj) (by simp))
  refine x_aload_n 333 dX1_doRename_332 rfl rfl ?_
  refine x_callV (as := []) (rest := []) (i := f) (n' := n - 1) 336 dX1_doRename_333 rfl mv_X1_403 rfl rfl (hT.ks.l6 (by omega)) (xnh rfl) (by omega) (xst (Nat.le_of_ble_eq_true rfl)) (c_X7_isDirectory hT.ks (by omega) (by omega) ?_)
  change X _ _ _ _ _ _ _ _ _ _
  refine x_vi (w := b2i (iDir I2 f)) rfl ?_
  refine x_if_eq 347 339 dX1_doRename_336 (by decide) rfl (fun c336 => ?_) (fun c336 => ?_)
  · skip
    have c336 : ¬ (iDir I2 f) := b2i_0.mp c336
    refine x_iconst (v := 0) 348 dX1_doRename_347 rfl rfl ?_
    refine x_ireturn dX1_doRename_348 rfl ?_
    have eF : I2 = kRnF (kRnE I2 f none) f t := by
      unfold kRnE kRnF; dsimp only; first | (rw [cif_t c336]; exact hI3) | rw [cif_f c336]
    rw [eF, hI2]
    exact hq.ret hT
  · skip
    have c336 : iDir I2 f := b2i_n0.mp c336
    refine x_aload_n 340 dX1_doRename_339 rfl rfl ?_
    refine x_aload_n 341 dX1_doRename_340 rfl rfl ?_
    refine x_geti 344 dX1_doRename_341 rfl fl_X1_448 (hT.ks.l6 (by omega)) ?_
    refine x_vi (w := I2 6 t 0) rfl ?_
    refine x_vi (w := nI t) (by rw [hI2, kDrp_c (by decide) (by decide), hI1, pPut_c (by decide) (by decide) (by decide)]; exact hK.nm.1 t htN) ?_
    refine x_puti 347 dX1_doRename_344 rfl fl_X1_300 rfl rfl (hT.ks.l6 (by omega)) ?_
    refine k_nmA (v := v) (kI_xu (c := 6) rfl) fun I3 hI3 => ?_
    refine x_iconst (v := 0) 348 dX1_doRename_347 rfl rfl ?_
    refine x_ireturn dX1_doRename_348 rfl ?_
    have eF : I3 = kRnF (kRnE I2 f none) f t := by
      unfold kRnE kRnF; dsimp only; first | (rw [cif_t c336]; exact hI3) | rw [cif_f c336]
    rw [eF, hI2]
    exact hq.ret hT
set_option maxHeartbeats 4000000 in
set_option maxRecDepth 100000 in
theorem s279_ren_g {G : xG} {n a b : Nat} {Q : Outcome → xS → Prop} {x : kX} {I : xI} {R : xR} {v : kV} {th : List xTh} {mm : Nat} (hT : KT x v th) (hK : KI (I, R, th) x.N mm) {st : Nat} {fr lg : Nat → Nat} (hp : PS I 0 st fr lg) {tp : Nat → Int32} (htp : I 27 0 = tp) {st2 : Nat} {fr2 lg2 : Nat → Nat} (hp2 : PS I 1 st2 fr2 lg2) (h1 : 1 ≤ st) (h12 : 1 ≤ st2) {d f t : Nat} (hdN : d < x.N) (hfN : f < x.N) (htN : t < x.N) {q : Nat} (hq5 : q < 512) {g : Nat} (hgN : g < x.N) (hmm : mm + 10 < 16384) {me : Nat} (hme : R 0 0 19 = some me) (hme16 : me < 16) (hn : 12 ≤ n) (hq : kOs Q x (kRn5 (I, R, th) tp fr lg st fr2 lg2 st2 d f t q (some g))) : X G mX1_doRename n a b Q (kS I R x v) 279 [(1, .ref (x.ad 0 0)), (1, .ref (x.ad 6 d)), (1, .ref (x.ad 6 f)), (1, .ref (x.ad 6 t)), (1, .ref (x.ad 6 g)), (1, .int (nI q))] [] := by
  have hnb := hT.ks.nb
  unfold kRn5 at hq
  have hp12 := hp.2.1
  have hp22 := hp2.2.1
  refine x_aload_n 280 dX1_doRename_279 rfl rfl ?_
  refine x_getz 283 dX1_doRename_280 rfl fl_X1_80 (hT.ks.l0 (by omega)) (hT.ks.z0_24 (by omega)) ?_
  refine x_aload_n 284 dX1_doRename_283 rfl rfl ?_
  refine x_iload 286 dX1_doRename_284 rfl rfl ?_
  refine x_aload_n 287 dX1_doRename_286 rfl rfl ?_
  refine x_callV (as := [.ref (x.ad 6 t), .int (nI q), .ref (x.ad 6 f)]) (rest := []) (i := 1) (n' := n - 1) 290 dX1_doRename_287 rfl mv_X1_682 rfl rfl (hT.ks.l4 (by omega)) (xnh rfl) (by omega) (xst (Nat.le_of_ble_eq_true rfl)) (c_X5_put (I := kI I v.t) (i := 1) (fr := fr2) (lg := lg2) (d := t) (f := f) hT.ks (by omega) hp2 (by omega) (by omega) (by omega) (by omega) (hK.nm.1 f (by omega)) (by omega) ?_)
  change X _ _ _ _ _ _ _ _ _ _
  refine k_nmA (v := v) (A1 := (pPut I fr2 lg2 (st2 - 1) t q f)) kI_pPut fun I1 hI1 => ?_
  have hpP : PS I1 0 st fr lg := by rw [hI1]; exact hp.put
  have htP : I1 27 0 = tp := by rw [hI1, ← htp]; funext j_; exact pPut_c (by decide) (by decide) (by decide)
  obtain ⟨hsl_, hq⟩ := hq.as
  rw [← hI1] at hsl_ hq
  have hsl2 := kSlt_n hsl_
  refine x_aload_n 291 dX1_doRename_290 rfl rfl ?_
  refine x_aload_n 292 dX1_doRename_291 rfl rfl ?_
  refine x_getz 295 dX1_doRename_292 rfl fl_X1_76 (hT.ks.l0 (by omega)) (hT.ks.z0_23 (by omega)) ?_
  refine x_aload_n 296 dX1_doRename_295 rfl rfl ?_
  refine x_callV (as := [.ref (x.ad 4 0), .ref (x.ad 6 d)]) (rest := []) (i := 0) (n' := n - 1) 299 dX1_doRename_296 rfl mv_X1_664 rfl rfl (hT.ks.l0 (by omega)) (xnh rfl) (by omega) (xst (Nat.le_of_ble_eq_true rfl)) (c_X1_drop (I := kI I1 v.t) (i := 0) (fr := fr) (lg := lg) (d := d) (s := (iN (kSlt (I1, R, th) d tp fr lg st))) hT.ks (by omega) (show PS I1 0 st fr lg from hpP) (by omega) (by omega) hsl2.1 (by rw [show kI I1 v.t 27 0 = tp from htP]; exact hsl2.2) (by omega) ?_)
  change X _ _ _ _ _ _ _ _ _ _
  refine k_nmA (v := v) (A1 := (kDrp I1 d (iN (kSlt (I1, R, th) d tp fr lg st)))) kI_kDrp fun I2 hI2 => ?_
  refine x_aload 301 dX1_doRename_299 rfl rfl ?_
  refine x_asR ?_
  refine x_ifnull 321 304 dX1_doRename_301 (by decide) rfl (fun h => nomatch h) (fun _ _ => ?_)
  refine x_aload 306 dX1_doRename_304 rfl rfl ?_
  refine x_callV (as := []) (rest := []) (i := g) (n' := n - 1) 309 dX1_doRename_306 rfl mv_X1_403 rfl rfl (hT.ks.l6 (by omega)) (xnh rfl) (by omega) (xst (Nat.le_of_ble_eq_true rfl)) (c_X7_isDirectory hT.ks (by omega) (by omega) ?_)
  change X _ _ _ _ _ _ _ _ _ _
  refine x_vi (w := b2i (iDir I2 g)) rfl ?_
  refine x_if_eq 321 312 dX1_doRename_309 (by decide) rfl (fun c309 => ?_) (fun c309 => ?_)
  · skip
    have c309 : ¬ (iDir I2 g) := b2i_0.mp c309
    refine x_aload 323 dX1_doRename_321 rfl rfl ?_
    refine x_asR ?_
    refine x_ifnull 332 326 dX1_doRename_323 (by decide) rfl (fun h => nomatch h) (fun _ _ => ?_)
    refine x_aload_n 327 dX1_doRename_326 rfl rfl ?_
    refine x_aload 329 dX1_doRename_327 rfl rfl ?_
    refine x_callV (as := [.ref (x.ad 6 g)]) (rest := []) (i := 0) (n' := n - 1) 332 dX1_doRename_329 rfl mv_X1_667 rfl rfl (hT.ks.l0 (by omega)) (xnh rfl) (by omega) (xst (Nat.le_of_ble_eq_true rfl)) (c_X1_dropName hT.ks (by omega) (by omega) ?_)
    change X _ _ _ _ _ _ _ _ _ _
    refine k_nmA (v := v) (A1 := (xu I2 6 g 2 (I2 6 g 2 - 1))) (by (repeat (first | rw [kI_xu] | rw [kI_xur] | rw [kI_xfil])) <;> rfl) fun I3 hI3 => ?_
    refine x_aload_n 333 dX1_doRename_332 rfl rfl ?_
    refine x_callV (as := []) (rest := []) (i := f) (n' := n - 1) 336 dX1_doRename_333 rfl mv_X1_403 rfl rfl (hT.ks.l6 (by omega)) (xnh rfl) (by omega) (xst (Nat.le_of_ble_eq_true rfl)) (c_X7_isDirectory hT.ks (by omega) (by omega) ?_)
    change X _ _ _ _ _ _ _ _ _ _
    refine x_vi (w := b2i (iDir I3 f)) rfl ?_
    refine x_if_eq 347 339 dX1_doRename_336 (by decide) rfl (fun c336 => ?_) (fun c336 => ?_)
    · skip
      have c336 : ¬ (iDir I3 f) := b2i_0.mp c336
      refine x_iconst (v := 0) 348 dX1_doRename_347 rfl rfl ?_
      refine x_ireturn dX1_doRename_348 rfl ?_
      have eF : I3 = kRnF (kRnE I2 f (some g)) f t := by
        unfold kRnE kRnF; dsimp only
        first | rw [cif_t (show iDir I2 g from c309)] | rw [cif_f (show ¬ iDir I2 g from c309)]
        first | (rw [← hI3, cif_t c336]; exact hI4) | (rw [← hI3, cif_f c336])
      rw [eF, hI2]
      exact hq.ret hT
    · skip
      have c336 : iDir I3 f := b2i_n0.mp c336
      refine x_aload_n 340 dX1_doRename_339 rfl rfl ?_
      refine x_aload_n 341 dX1_doRename_340 rfl rfl ?_
      refine x_geti 344 dX1_doRename_341 rfl fl_X1_448 (hT.ks.l6 (by omega)) ?_
      refine x_vi (w := I3 6 t 0) rfl ?_
      refine x_vi (w := nI t) (by rw [hI3, xu_k (by decide), hI2, kDrp_c (by decide) (by decide), hI1, pPut_c (by decide) (by decide) (by decide)]; exact hK.nm.1 t htN) ?_
      refine x_puti 347 dX1_doRename_344 rfl fl_X1_300 rfl rfl (hT.ks.l6 (by omega)) ?_
      refine k_nmA (v := v) (kI_xu (c := 6) rfl) fun I4 hI4 => ?_
      refine x_iconst (v := 0) 348 dX1_doRename_347 rfl rfl ?_
      refine x_ireturn dX1_doRename_348 rfl ?_
      have eF : I4 = kRnF (kRnE I2 f (some g)) f t := by
        unfold kRnE kRnF; dsimp only
        first | rw [cif_t (show iDir I2 g from c309)] | rw [cif_f (show ¬ iDir I2 g from c309)]
        first | (rw [← hI3, cif_t c336]; exact hI4) | (rw [← hI3, cif_f c336])
      rw [eF, hI2]
      exact hq.ret hT
  · skip
    have c309 : iDir I2 g := b2i_n0.mp c309
    refine x_aload_n 313 dX1_doRename_312 rfl rfl ?_
    refine x_aload 315 dX1_doRename_313 rfl rfl ?_
    refine x_callV (as := [.ref (x.ad 6 g)]) (rest := []) (i := 0) (n' := n - 1) 318 dX1_doRename_315 rfl mv_X1_674 rfl rfl (hT.ks.l0 (by omega)) (xnh rfl) (by omega) (xst (Nat.le_of_ble_eq_true rfl)) (c_X1_dropDirectory hT.ks (by omega) (by omega) ?_)
    change X _ _ _ _ _ _ _ _ _ _
    refine k_nmA (v := v) (A1 := (kDropD I2 g)) kI_kDropD fun I3 hI3 => ?_
    refine x_goto 332 dX1_doRename_318 (by decide) ?_
    refine x_aload_n 333 dX1_doRename_332 rfl rfl ?_
    refine x_callV (as := []) (rest := []) (i := f) (n' := n - 1) 336 dX1_doRename_333 rfl mv_X1_403 rfl rfl (hT.ks.l6 (by omega)) (xnh rfl) (by omega) (xst (Nat.le_of_ble_eq_true rfl)) (c_X7_isDirectory hT.ks (by omega) (by omega) ?_)
    change X _ _ _ _ _ _ _ _ _ _
    refine x_vi (w := b2i (iDir I3 f)) rfl ?_
    refine x_if_eq 347 339 dX1_doRename_336 (by decide) rfl (fun c336 => ?_) (fun c336 => ?_)
    · skip
      have c336 : ¬ (iDir I3 f) := b2i_0.mp c336
      refine x_iconst (v := 0) 348 dX1_doRename_347 rfl rfl ?_
      refine x_ireturn dX1_doRename_348 rfl ?_
      have eF : I3 = kRnF (kRnE I2 f (some g)) f t := by
        unfold kRnE kRnF; dsimp only
        first | rw [cif_t (show iDir I2 g from c309)] | rw [cif_f (show ¬ iDir I2 g from c309)]
        first | (rw [← hI3, cif_t c336]; exact hI4) | (rw [← hI3, cif_f c336])
      rw [eF, hI2]
      exact hq.ret hT
    · skip
      have c336 : iDir I3 f := b2i_n0.mp c336
      refine x_aload_n 340 dX1_doRename_339 rfl rfl ?_
      refine x_aload_n 341 dX1_doRename_340 rfl rfl ?_
      refine x_geti 344 dX1_doRename_341 rfl fl_X1_448 (hT.ks.l6 (by omega)) ?_
      refine x_vi (w := I3 6 t 0) rfl ?_
      refine x_vi (w := nI t) (by rw [hI3, kDropD_0 (Or.inl rfl), hI2, kDrp_c (by decide) (by decide), hI1, pPut_c (by decide) (by decide) (by decide)]; exact hK.nm.1 t htN) ?_
      refine x_puti 347 dX1_doRename_344 rfl fl_X1_300 rfl rfl (hT.ks.l6 (by omega)) ?_
      refine k_nmA (v := v) (kI_xu (c := 6) rfl) fun I4 hI4 => ?_
      refine x_iconst (v := 0) 348 dX1_doRename_347 rfl rfl ?_
      refine x_ireturn dX1_doRename_348 rfl ?_
      have eF : I4 = kRnF (kRnE I2 f (some g)) f t := by
        unfold kRnE kRnF; dsimp only
        first | rw [cif_t (show iDir I2 g from c309)] | rw [cif_f (show ¬ iDir I2 g from c309)]
        first | (rw [← hI3, cif_t c336]; exact hI4) | (rw [← hI3, cif_f c336])
      rw [eF, hI2]
      exact hq.ret hT
set_option maxHeartbeats 4000000 in
set_option maxRecDepth 100000 in
theorem s263_ren_none {G : xG} {n a b : Nat} {Q : Outcome → xS → Prop} {x : kX} {I : xI} {R : xR} {v : kV} {th : List xTh} {mm : Nat} (hT : KT x v th) (hK : KI (I, R, th) x.N mm) {st : Nat} {fr lg : Nat → Nat} (hp : PS I 0 st fr lg) {tp : Nat → Int32} (htp : I 27 0 = tp) {st2 : Nat} {fr2 lg2 : Nat → Nat} (hp2 : PS I 1 st2 fr2 lg2) (h1 : 1 ≤ st) (h12 : 1 ≤ st2) {d f t : Nat} (hdN : d < x.N) (hfN : f < x.N) (htN : t < x.N) {q : Nat} (hq5 : q < 512) (hmm : mm + 20 < 16384) {me : Nat} (hme : R 0 0 19 = some me) (hme16 : me < 16) (hn : 12 ≤ n) (hq : kOs Q x (kRn4 x.N (I, R, th) me tp fr lg st fr2 lg2 st2 d f t q none)) : X G mX1_doRename n a b Q (kS I R x v) 263 [(1, .ref (x.ad 0 0)), (1, .ref (x.ad 6 d)), (1, .ref (x.ad 6 f)), (1, .ref (x.ad 6 t)), (1, va_re (x.ad 6) none), (1, .int (nI q))] [] := by
  have hnb := hT.ks.nb
  unfold kRn4 at hq
  have hp12 := hp.2.1
  have hp22 := hp2.2.1
  refine x_aload_n 264 dX1_doRename_263 rfl rfl ?_
  refine x_callV (as := []) (rest := []) (i := f) (n' := n - 1) 267 dX1_doRename_264 rfl mv_X1_403 rfl rfl (hT.ks.l6 (by omega)) (xnh rfl) (by omega) (xst (Nat.le_of_ble_eq_true rfl)) (c_X7_isDirectory hT.ks (by omega) (by omega) ?_)
  change X _ _ _ _ _ _ _ _ _ _
  refine x_vi (w := b2i (iDir I f)) rfl ?_
  refine x_if_eq 279 270 dX1_doRename_267 (by decide) rfl (fun c267 => ?_) (fun c267 => ?_)
  · skip
    have c267 : ¬ (iDir I f) := b2i_0.mp c267
    rw [cif_f (show ¬ iDir I f from c267)] at hq
    exact s279_ren_none hT hK ((hp.fx (kSx.rfl (s := (I, R, th))).1)) (tp_fx htp (kSx.rfl (s := (I, R, th))).1) ((hp2.fx (kSx.rfl (s := (I, R, th))).1)) h1 h12 hdN hfN htN hq5 (by omega) ((kSx.rfl (s := (I, R, th))).2 0 0 19 rfl |>.trans hme) hme16 (by omega) hq
  · skip
    have c267 : iDir I f := b2i_n0.mp c267
    rw [cif_t (show iDir I f from c267)] at hq
    refine x_aload_n 271 dX1_doRename_270 rfl rfl ?_
    refine x_iconst (v := 4) 272 dX1_doRename_271 rfl rfl ?_
    refine x_aload_n 273 dX1_doRename_272 rfl rfl ?_
    refine x_geti 276 dX1_doRename_273 rfl fl_X1_448 (hT.ks.l6 (by omega)) ?_
    refine x_vi (w := I 6 f 0) rfl ?_
    refine x_vi (w := nI f) (hK.nm.1 f (by omega)) ?_
    obtain ⟨r_1, hd1⟩ : ∃ r : kO, r = kAccess x.N (I, R, th) me 4 (nI f) 0 0 1 := ⟨_, rfl⟩
    rw [← hd1] at hq
    have hK_1 : KI r_1.2 x.N (mm + 1) := by rw [hd1]; exact hK.access (hoaN (g := 4) (by omega) (kOf4 (by omega)))
    have hS_1 : kSx (I, R, th) r_1.2 := (kSx.rfl (s := (I, R, th))).trans (by rw [hd1]; exact sx_access)
    refine x_callV (as := [.int 4, .int (nI f)]) (rest := []) (i := 0) (n' := n - 1) 279 dX1_doRename_276 rfl mv_X1_588 rfl rfl (hT.ks.l0 (by omega)) (xnh rfl) (by omega) (xst (Nat.le_of_ble_eq_true rfl)) (c_X1_writes (g := 4) (oa := nI f) hT hK (hoaN (g := 4) (by omega) (kOf4 (by omega))) (by omega) ((kSx.rfl (s := (I, R, th))).2 0 0 19 rfl |>.trans hme) hme16 (by omega) (kOutN hd1 ⟨?_, ?_⟩))
    · skip
      intro hz1 w1 hU1
      change X _ _ _ _ _ _ _ _ _ _
      rw [kU_ok hz1] at hq
      exact s279_ren_none hU1 hK_1 ((hp.fx (hS_1).1)) (tp_fx htp (hS_1).1) ((hp2.fx (hS_1).1)) h1 h12 hdN hfN htN hq5 (by omega) ((hS_1).2 0 0 19 rfl |>.trans hme) hme16 (by omega) hq
    · skip
      intro hz1 w1 hU1
      rw [kU_no hz1] at hq
      exact hq.no hz1 hU1
set_option maxHeartbeats 4000000 in
set_option maxRecDepth 100000 in
theorem s263_ren_g {G : xG} {n a b : Nat} {Q : Outcome → xS → Prop} {x : kX} {I : xI} {R : xR} {v : kV} {th : List xTh} {mm : Nat} (hT : KT x v th) (hK : KI (I, R, th) x.N mm) {st : Nat} {fr lg : Nat → Nat} (hp : PS I 0 st fr lg) {tp : Nat → Int32} (htp : I 27 0 = tp) {st2 : Nat} {fr2 lg2 : Nat → Nat} (hp2 : PS I 1 st2 fr2 lg2) (h1 : 1 ≤ st) (h12 : 1 ≤ st2) {d f t : Nat} (hdN : d < x.N) (hfN : f < x.N) (htN : t < x.N) {q : Nat} (hq5 : q < 512) {g : Nat} (hgN : g < x.N) (hmm : mm + 20 < 16384) {me : Nat} (hme : R 0 0 19 = some me) (hme16 : me < 16) (hn : 12 ≤ n) (hq : kOs Q x (kRn4 x.N (I, R, th) me tp fr lg st fr2 lg2 st2 d f t q (some g))) : X G mX1_doRename n a b Q (kS I R x v) 263 [(1, .ref (x.ad 0 0)), (1, .ref (x.ad 6 d)), (1, .ref (x.ad 6 f)), (1, .ref (x.ad 6 t)), (1, .ref (x.ad 6 g)), (1, .int (nI q))] [] := by
  have hnb := hT.ks.nb
  unfold kRn4 at hq
  have hp12 := hp.2.1
  have hp22 := hp2.2.1
  refine x_aload_n 264 dX1_doRename_263 rfl rfl ?_
  refine x_callV (as := []) (rest := []) (i := f) (n' := n - 1) 267 dX1_doRename_264 rfl mv_X1_403 rfl rfl (hT.ks.l6 (by omega)) (xnh rfl) (by omega) (xst (Nat.le_of_ble_eq_true rfl)) (c_X7_isDirectory hT.ks (by omega) (by omega) ?_)
  change X _ _ _ _ _ _ _ _ _ _
  refine x_vi (w := b2i (iDir I f)) rfl ?_
  refine x_if_eq 279 270 dX1_doRename_267 (by decide) rfl (fun c267 => ?_) (fun c267 => ?_)
  · skip
    have c267 : ¬ (iDir I f) := b2i_0.mp c267
    rw [cif_f (show ¬ iDir I f from c267)] at hq
    exact s279_ren_g hT hK ((hp.fx (kSx.rfl (s := (I, R, th))).1)) (tp_fx htp (kSx.rfl (s := (I, R, th))).1) ((hp2.fx (kSx.rfl (s := (I, R, th))).1)) h1 h12 hdN hfN htN hq5 hgN (by omega) ((kSx.rfl (s := (I, R, th))).2 0 0 19 rfl |>.trans hme) hme16 (by omega) hq
  · skip
    have c267 : iDir I f := b2i_n0.mp c267
    rw [cif_t (show iDir I f from c267)] at hq
    refine x_aload_n 271 dX1_doRename_270 rfl rfl ?_
    refine x_iconst (v := 4) 272 dX1_doRename_271 rfl rfl ?_
    refine x_aload_n 273 dX1_doRename_272 rfl rfl ?_
    refine x_geti 276 dX1_doRename_273 rfl fl_X1_448 (hT.ks.l6 (by omega)) ?_
    refine x_vi (w := I 6 f 0) rfl ?_
    refine x_vi (w := nI f) (hK.nm.1 f (by omega)) ?_
    obtain ⟨r_1, hd1⟩ : ∃ r : kO, r = kAccess x.N (I, R, th) me 4 (nI f) 0 0 1 := ⟨_, rfl⟩
    rw [← hd1] at hq
    have hK_1 : KI r_1.2 x.N (mm + 1) := by rw [hd1]; exact hK.access (hoaN (g := 4) (by omega) (kOf4 (by omega)))
    have hS_1 : kSx (I, R, th) r_1.2 := (kSx.rfl (s := (I, R, th))).trans (by rw [hd1]; exact sx_access)
    refine x_callV (as := [.int 4, .int (nI f)]) (rest := []) (i := 0) (n' := n - 1) 279 dX1_doRename_276 rfl mv_X1_588 rfl rfl (hT.ks.l0 (by omega)) (xnh rfl) (by omega) (xst (Nat.le_of_ble_eq_true rfl)) (c_X1_writes (g := 4) (oa := nI f) hT hK (hoaN (g := 4) (by omega) (kOf4 (by omega))) (by omega) ((kSx.rfl (s := (I, R, th))).2 0 0 19 rfl |>.trans hme) hme16 (by omega) (kOutN hd1 ⟨?_, ?_⟩))
    · skip
      intro hz1 w1 hU1
      change X _ _ _ _ _ _ _ _ _ _
      rw [kU_ok hz1] at hq
      exact s279_ren_g hU1 hK_1 ((hp.fx (hS_1).1)) (tp_fx htp (hS_1).1) ((hp2.fx (hS_1).1)) h1 h12 hdN hfN htN hq5 hgN (by omega) ((hS_1).2 0 0 19 rfl |>.trans hme) hme16 (by omega) hq
    · skip
      intro hz1 w1 hU1
      rw [kU_no hz1] at hq
      exact hq.no hz1 hU1
theorem iFreeSlot_n {I : xI} {d : Nat} (h : ¬ iFreeSlot I d = -1) : iN (iFreeSlot I d) < 512 ∧ iFreeSlot I d = nI (iN (iFreeSlot I d)) := by
  unfold iFreeSlot at h ⊢
  rcases fstI_cases (fun q => I 40 d q = 0 ∧ I 41 d q = 0) 512 with ⟨h1, _⟩ | ⟨q, h1, _, h3, _⟩
  · exact absurd h1 h
  · rw [h3, iN_nI (by omega)]; exact ⟨h1, rfl⟩
set_option maxHeartbeats 4000000 in
set_option maxRecDepth 100000 in
theorem s162_ren_none {G : xG} {n a b : Nat} {Q : Outcome → xS → Prop} {x : kX} {I : xI} {R : xR} {v : kV} {th : List xTh} {mm : Nat} (hT : KT x v th) (hK : KI (I, R, th) x.N mm) {st : Nat} {fr lg : Nat → Nat} (hp : PS I 0 st fr lg) {tp : Nat → Int32} (htp : I 27 0 = tp) {st2 : Nat} {fr2 lg2 : Nat → Nat} (hp2 : PS I 1 st2 fr2 lg2) (h1 : 1 ≤ st) (h12 : 1 ≤ st2) {d f t : Nat} (hdN : d < x.N) (hfN : f < x.N) (htN : t < x.N) (hmm : mm + 30 < 16384) {me : Nat} (hme : R 0 0 19 = some me) (hme16 : me < 16) (hn : 12 ≤ n) (hq : kOs Q x (kRn3 x.N (I, R, th) me tp fr lg st fr2 lg2 st2 d f t none)) : X G mX1_doRename n a b Q (kS I R x v) 162 [(1, .ref (x.ad 0 0)), (1, .ref (x.ad 6 d)), (1, .ref (x.ad 6 f)), (1, .ref (x.ad 6 t)), (1, va_re (x.ad 6) none), xo] [] := by
  have hnb := hT.ks.nb
  unfold kRn3 at hq
  have hp12 := hp.2.1
  have hp22 := hp2.2.1
  refine x_aload_n 163 dX1_doRename_162 rfl rfl ?_
  refine x_getz 166 dX1_doRename_163 rfl fl_X1_76 (hT.ks.l0 (by omega)) (hT.ks.z0_23 (by omega)) ?_
  refine x_aload_n 167 dX1_doRename_166 rfl rfl ?_
  refine x_getz 170 dX1_doRename_167 rfl fl_X1_76 (hT.ks.l0 (by omega)) (hT.ks.z0_23 (by omega)) ?_
  refine x_geti 173 dX1_doRename_170 rfl fl_X1_658 (hT.ks.l4 (by omega)) ?_
  refine x_vi (w := I 4 0 2) rfl ?_
  refine x_vi (w := nI st) ((hp.fx (kSx.rfl (s := (I, R, th))).1)).1 ?_
  refine x_iconst (v := 1) 174 dX1_doRename_173 rfl rfl ?_
  refine x_isubn st 1 175 dX1_doRename_174 rfl rfl rfl (by omega) ?_
  refine x_aload_n 176 dX1_doRename_175 rfl rfl ?_
  refine x_iconst (v := 1) 177 dX1_doRename_176 rfl rfl ?_
  obtain ⟨r_1, hd1⟩ : ∃ r : kO, r = kAccE x.N (I, R, th) me tp fr lg (st - 1) d 1 := ⟨_, rfl⟩
  rw [← hd1] at hq
  have hK_1 : KI r_1.2 x.N (mm + 1) := by rw [hd1]; unfold kAccE; exact hK.access (hoaN (g := 2) (by omega) kOf2)
  have hS_1 : kSx (I, R, th) r_1.2 := (kSx.rfl (s := (I, R, th))).trans (by rw [hd1]; unfold kAccE; exact sx_access)
  refine x_callV (as := [.int (nI (st - 1)), .ref (x.ad 6 d), .int 1]) (rest := []) (i := 0) (n' := n - 1) 180 dX1_doRename_177 rfl mv_X1_661 rfl rfl (hT.ks.l4 (by omega)) (xnh rfl) (by omega) (xst (Nat.le_of_ble_eq_true rfl)) (c_X5_access (w := 1) (i := 0) (fr := fr) (lg := lg) (k := st - 1) hT hK (by omega) (hp.fx (kSx.rfl (s := (I, R, th))).1) (tp_fx htp (kSx.rfl (s := (I, R, th))).1) (by omega) (by omega) (by omega) ((kSx.rfl (s := (I, R, th))).2 0 0 19 rfl |>.trans hme) hme16 (by omega) (kOutN hd1 ⟨?_, ?_⟩))
  · skip
    intro hz1 w1 hU1
    change X _ _ _ _ _ _ _ _ _ _
    rw [kU_ok hz1] at hq
    refine x_aload_n 181 dX1_doRename_180 rfl rfl ?_
    refine x_getz 184 dX1_doRename_181 rfl fl_X1_80 (hU1.ks.l0 (by omega)) (hU1.ks.z0_24 (by omega)) ?_
    refine x_aload_n 185 dX1_doRename_184 rfl rfl ?_
    refine x_getz 188 dX1_doRename_185 rfl fl_X1_80 (hU1.ks.l0 (by omega)) (hU1.ks.z0_24 (by omega)) ?_
    refine x_geti 191 dX1_doRename_188 rfl fl_X1_658 (hU1.ks.l4 (by omega)) ?_
    refine x_vi (w := r_1.2.1 4 1 2) rfl ?_
    refine x_vi (w := nI st2) ((hp2.fx (hS_1).1)).1 ?_
    refine x_iconst (v := 1) 192 dX1_doRename_191 rfl rfl ?_
    refine x_isubn st2 1 193 dX1_doRename_192 rfl rfl rfl (by omega) ?_
    refine x_aload_n 194 dX1_doRename_193 rfl rfl ?_
    refine x_iconst (v := 1) 195 dX1_doRename_194 rfl rfl ?_
    obtain ⟨r_2, hd2⟩ : ∃ r : kO, r = kAccE x.N r_1.2 me tp fr2 lg2 (st2 - 1) t 1 := ⟨_, rfl⟩
    rw [← hd2] at hq
    have hK_2 : KI r_2.2 x.N ((mm + 1) + 1) := by rw [hd2]; unfold kAccE; exact hK_1.access (hoaN (g := 2) (by omega) kOf2)
    have hS_2 : kSx (I, R, th) r_2.2 := (hS_1).trans (by rw [hd2]; unfold kAccE; exact sx_access)
    refine x_callV (as := [.int (nI (st2 - 1)), .ref (x.ad 6 t), .int 1]) (rest := []) (i := 1) (n' := n - 1) 198 dX1_doRename_195 rfl mv_X1_661 rfl rfl (hU1.ks.l4 (by omega)) (xnh rfl) (by omega) (xst (Nat.le_of_ble_eq_true rfl)) (c_X5_access (w := 1) (i := 1) (fr := fr2) (lg := lg2) (k := st2 - 1) hU1 hK_1 (by omega) (hp2.fx (hS_1).1) (tp_fx htp (hS_1).1) (by omega) (by omega) (by omega) ((hS_1).2 0 0 19 rfl |>.trans hme) hme16 (by omega) (kOutN hd2 ⟨?_, ?_⟩))
    · skip
      intro hz2 w2 hU2
      change X _ _ _ _ _ _ _ _ _ _
      rw [kU_ok hz2] at hq
      try dsimp only at hq
      refine x_aload_r 200 dX1_doRename_198 rfl rfl ?_
      refine x_ifnonnull 210 203 dX1_doRename_200 (by decide) rfl (fun j hj => absurd (rfl.symm.trans hj) (by simp)) (fun _ => ?_)
      refine x_aload_n 204 dX1_doRename_203 rfl rfl ?_
      refine x_callV (as := []) (rest := []) (i := t) (n' := n - 1) 207 dX1_doRename_204 rfl mv_X1_689 rfl rfl (hU2.ks.l6 (by omega)) (xnh rfl) (by omega) (xst (Nat.le_of_ble_eq_true rfl)) (c_X7_freeSlot hU2.ks (by omega) (by omega) ?_)
      change X _ _ _ _ _ _ _ _ _ _
      refine x_vi (w := iFreeSlot r_2.2.1 t) rfl ?_
      refine x_goto 218 dX1_doRename_207 (by decide) ?_
      refine x_nmi fun x1 hx1 => ?_
      refine x_istore 220 [(1, .ref (x.ad 0 0)), (1, .ref (x.ad 6 d)), (1, .ref (x.ad 6 f)), (1, .ref (x.ad 6 t)), (1, va_re (x.ad 6) none), (1, .int x1)] dX1_doRename_218 rfl (by decide) rfl ?_
      refine x_iload 222 dX1_doRename_220 rfl rfl ?_
      refine x_iconst (v := -1) 223 dX1_doRename_222 rfl rfl ?_
      refine x_icmp_ne 236 226 dX1_doRename_223 (by decide) rfl (fun c223 => ?_) (fun c223 => ?_)
      · skip
        rw [if_neg (by rw [← hx1]; exact c223)] at hq
        have hs0 := iFreeSlot_n (by rw [← hx1]; exact c223)
        rw [← hx1] at hs0
        obtain ⟨s_, hs1, hs2⟩ : ∃ s_, s_ < 512 ∧ x1 = nI s_ := ⟨_, hs0.1, hs0.2⟩
        rw [← hx1, hs2, iN_nI (by omega)] at hq
        clear hx1 hs0
        subst hs2
        refine x_aload_r 238 dX1_doRename_236 rfl rfl ?_
        refine x_ifnull 263 241 dX1_doRename_238 (by decide) rfl (fun _ => ?_) (fun j hj => absurd (rfl.symm.trans hj) (by simp))
        exact s263_ren_none hU2 hK_2 ((hp.fx (hS_2).1)) (tp_fx htp (hS_2).1) ((hp2.fx (hS_2).1)) h1 h12 hdN hfN htN hs1 (by omega) ((hS_2).2 0 0 19 rfl |>.trans hme) hme16 (by omega) hq
      · skip
        rw [if_pos (by rw [← hx1]; exact c223)] at hq
        refine x_aload_n 227 dX1_doRename_226 rfl rfl ?_
        refine x_getz 230 dX1_doRename_227 rfl fl_X1_53 (hU2.ks.l0 (by omega)) (hU2.ks.z0_10 (by omega)) ?_
        refine x_bipush (v := -6) 232 dX1_doRename_230 rfl rfl ?_
        refine x_callV (as := [.int (-6)]) (rest := []) (i := 0) (n' := n - 1) 235 dX1_doRename_232 rfl mv_X1_364 rfl rfl (hU2.ks.l3 (by omega)) (xnh rfl) (by omega) (xst (Nat.le_of_ble_eq_true rfl)) (c_X4_by hU2.ks (by omega) ?_)
        change X _ _ _ _ _ _ _ _ _ _
        refine k_nmA (v := w2) (A1 := (xu r_2.2.1 3 0 0 ((-6)))) (by (repeat (first | rw [kI_xu] | rw [kI_xur] | rw [kI_xfil])) <;> rfl) fun I1 hI1 => ?_
        refine x_athrow dX1_doRename_235 (xnh rfl) ?_
        rw [hI1]
        exact hq.thr (by decide) hU2
    · skip
      intro hz2 w2 hU2
      rw [kU_no hz2] at hq
      exact hq.no hz2 hU2
  · skip
    intro hz1 w1 hU1
    rw [kU_no hz1] at hq
    exact hq.no hz1 hU1
set_option maxHeartbeats 4000000 in
set_option maxRecDepth 100000 in
theorem s162_ren_g {G : xG} {n a b : Nat} {Q : Outcome → xS → Prop} {x : kX} {I : xI} {R : xR} {v : kV} {th : List xTh} {mm : Nat} (hT : KT x v th) (hK : KI (I, R, th) x.N mm) {st : Nat} {fr lg : Nat → Nat} (hp : PS I 0 st fr lg) {tp : Nat → Int32} (htp : I 27 0 = tp) {st2 : Nat} {fr2 lg2 : Nat → Nat} (hp2 : PS I 1 st2 fr2 lg2) (h1 : 1 ≤ st) (h12 : 1 ≤ st2) {d f t : Nat} (hdN : d < x.N) (hfN : f < x.N) (htN : t < x.N) {g : Nat} (hgN : g < x.N) (hmm : mm + 30 < 16384) {me : Nat} (hme : R 0 0 19 = some me) (hme16 : me < 16) (hn : 12 ≤ n) (hq : kOs Q x (kRn3 x.N (I, R, th) me tp fr lg st fr2 lg2 st2 d f t (some g))) : X G mX1_doRename n a b Q (kS I R x v) 162 [(1, .ref (x.ad 0 0)), (1, .ref (x.ad 6 d)), (1, .ref (x.ad 6 f)), (1, .ref (x.ad 6 t)), (1, .ref (x.ad 6 g)), xo] [] := by
  have hnb := hT.ks.nb
  unfold kRn3 at hq
  have hp12 := hp.2.1
  have hp22 := hp2.2.1
  refine x_aload_n 163 dX1_doRename_162 rfl rfl ?_
  refine x_getz 166 dX1_doRename_163 rfl fl_X1_76 (hT.ks.l0 (by omega)) (hT.ks.z0_23 (by omega)) ?_
  refine x_aload_n 167 dX1_doRename_166 rfl rfl ?_
  refine x_getz 170 dX1_doRename_167 rfl fl_X1_76 (hT.ks.l0 (by omega)) (hT.ks.z0_23 (by omega)) ?_
  refine x_geti 173 dX1_doRename_170 rfl fl_X1_658 (hT.ks.l4 (by omega)) ?_
  refine x_vi (w := I 4 0 2) rfl ?_
  refine x_vi (w := nI st) ((hp.fx (kSx.rfl (s := (I, R, th))).1)).1 ?_
  refine x_iconst (v := 1) 174 dX1_doRename_173 rfl rfl ?_
  refine x_isubn st 1 175 dX1_doRename_174 rfl rfl rfl (by omega) ?_
  refine x_aload_n 176 dX1_doRename_175 rfl rfl ?_
  refine x_iconst (v := 1) 177 dX1_doRename_176 rfl rfl ?_
  obtain ⟨r_1, hd1⟩ : ∃ r : kO, r = kAccE x.N (I, R, th) me tp fr lg (st - 1) d 1 := ⟨_, rfl⟩
  rw [← hd1] at hq
  have hK_1 : KI r_1.2 x.N (mm + 1) := by rw [hd1]; unfold kAccE; exact hK.access (hoaN (g := 2) (by omega) kOf2)
  have hS_1 : kSx (I, R, th) r_1.2 := (kSx.rfl (s := (I, R, th))).trans (by rw [hd1]; unfold kAccE; exact sx_access)
  refine x_callV (as := [.int (nI (st - 1)), .ref (x.ad 6 d), .int 1]) (rest := []) (i := 0) (n' := n - 1) 180 dX1_doRename_177 rfl mv_X1_661 rfl rfl (hT.ks.l4 (by omega)) (xnh rfl) (by omega) (xst (Nat.le_of_ble_eq_true rfl)) (c_X5_access (w := 1) (i := 0) (fr := fr) (lg := lg) (k := st - 1) hT hK (by omega) (hp.fx (kSx.rfl (s := (I, R, th))).1) (tp_fx htp (kSx.rfl (s := (I, R, th))).1) (by omega) (by omega) (by omega) ((kSx.rfl (s := (I, R, th))).2 0 0 19 rfl |>.trans hme) hme16 (by omega) (kOutN hd1 ⟨?_, ?_⟩))
  · skip
    intro hz1 w1 hU1
    change X _ _ _ _ _ _ _ _ _ _
    rw [kU_ok hz1] at hq
    refine x_aload_n 181 dX1_doRename_180 rfl rfl ?_
    refine x_getz 184 dX1_doRename_181 rfl fl_X1_80 (hU1.ks.l0 (by omega)) (hU1.ks.z0_24 (by omega)) ?_
    refine x_aload_n 185 dX1_doRename_184 rfl rfl ?_
    refine x_getz 188 dX1_doRename_185 rfl fl_X1_80 (hU1.ks.l0 (by omega)) (hU1.ks.z0_24 (by omega)) ?_
    refine x_geti 191 dX1_doRename_188 rfl fl_X1_658 (hU1.ks.l4 (by omega)) ?_
    refine x_vi (w := r_1.2.1 4 1 2) rfl ?_
    refine x_vi (w := nI st2) ((hp2.fx (hS_1).1)).1 ?_
    refine x_iconst (v := 1) 192 dX1_doRename_191 rfl rfl ?_
    refine x_isubn st2 1 193 dX1_doRename_192 rfl rfl rfl (by omega) ?_
    refine x_aload_n 194 dX1_doRename_193 rfl rfl ?_
    refine x_iconst (v := 1) 195 dX1_doRename_194 rfl rfl ?_
    obtain ⟨r_2, hd2⟩ : ∃ r : kO, r = kAccE x.N r_1.2 me tp fr2 lg2 (st2 - 1) t 1 := ⟨_, rfl⟩
    rw [← hd2] at hq
    have hK_2 : KI r_2.2 x.N ((mm + 1) + 1) := by rw [hd2]; unfold kAccE; exact hK_1.access (hoaN (g := 2) (by omega) kOf2)
    have hS_2 : kSx (I, R, th) r_2.2 := (hS_1).trans (by rw [hd2]; unfold kAccE; exact sx_access)
    refine x_callV (as := [.int (nI (st2 - 1)), .ref (x.ad 6 t), .int 1]) (rest := []) (i := 1) (n' := n - 1) 198 dX1_doRename_195 rfl mv_X1_661 rfl rfl (hU1.ks.l4 (by omega)) (xnh rfl) (by omega) (xst (Nat.le_of_ble_eq_true rfl)) (c_X5_access (w := 1) (i := 1) (fr := fr2) (lg := lg2) (k := st2 - 1) hU1 hK_1 (by omega) (hp2.fx (hS_1).1) (tp_fx htp (hS_1).1) (by omega) (by omega) (by omega) ((hS_1).2 0 0 19 rfl |>.trans hme) hme16 (by omega) (kOutN hd2 ⟨?_, ?_⟩))
    · skip
      intro hz2 w2 hU2
      change X _ _ _ _ _ _ _ _ _ _
      rw [kU_ok hz2] at hq
      try dsimp only at hq
      refine x_aload 200 dX1_doRename_198 rfl rfl ?_
      refine x_asR ?_
      refine x_ifnonnull 210 203 dX1_doRename_200 (by decide) rfl (fun _ _ => ?_) (fun h => nomatch h)
      refine x_aload_n 211 dX1_doRename_210 rfl rfl ?_
      refine x_getz 214 dX1_doRename_211 rfl fl_X1_80 (hU2.ks.l0 (by omega)) (hU2.ks.z0_24 (by omega)) ?_
      refine x_aload_n 215 dX1_doRename_214 rfl rfl ?_
      refine x_callV (as := [.ref (x.ad 6 t)]) (rest := []) (i := 1) (n' := n - 1) 218 dX1_doRename_215 rfl mv_X1_652 rfl rfl (hU2.ks.l4 (by omega)) (xnh rfl) (by omega) (xst (Nat.le_of_ble_eq_true rfl)) (c_X5_lastSlot (I := kI r_2.2.1 w2.t) (i := 1) (fr := fr2) (lg := lg2) (d := t) hU2.ks (by omega) (show PS r_2.2.1 1 st2 fr2 lg2 from (hp2.fx (hS_2).1)) (by omega) (by omega) (by omega) ?_)
      change X _ _ _ _ _ _ _ _ _ _
      refine x_vi (w := iSlot r_2.2.1 t (r_2.2.1 27 0) (fr2 (st2 - 1)) (lg2 (st2 - 1))) rfl ?_
      refine x_vi (w := kSlt r_2.2 t tp fr2 lg2 st2) (by unfold kSlt; rw [← (tp_fx htp (hS_2).1)]) ?_
      refine x_nmi fun x1 hx1 => ?_
      refine x_istore 220 [(1, .ref (x.ad 0 0)), (1, .ref (x.ad 6 d)), (1, .ref (x.ad 6 f)), (1, .ref (x.ad 6 t)), (1, .ref (x.ad 6 g)), (1, .int x1)] dX1_doRename_218 rfl (by decide) rfl ?_
      refine x_iload 222 dX1_doRename_220 rfl rfl ?_
      refine x_iconst (v := -1) 223 dX1_doRename_222 rfl rfl ?_
      refine x_icmp_ne 236 226 dX1_doRename_223 (by decide) rfl (fun c223 => ?_) (fun c223 => ?_)
      · skip
        rw [if_neg (by rw [← hx1]; exact c223)] at hq
        have hs0 := kSlt_n (by rw [← hx1]; exact c223)
        rw [← hx1] at hs0
        obtain ⟨s_, hs1, hs2⟩ : ∃ s_, s_ < 512 ∧ x1 = nI s_ := ⟨_, hs0.1, hs0.2⟩
        rw [← hx1, hs2, iN_nI (by omega)] at hq
        clear hx1 hs0
        subst hs2
        refine x_aload 238 dX1_doRename_236 rfl rfl ?_
        refine x_asR ?_
        refine x_ifnull 263 241 dX1_doRename_238 (by decide) rfl (fun h => nomatch h) (fun _ _ => ?_)
        refine x_aload_n 242 dX1_doRename_241 rfl rfl ?_
        refine x_aload 244 dX1_doRename_242 rfl rfl ?_
        refine x_callV (as := []) (rest := [.ref (x.ad 0 0)]) (i := g) (n' := n - 1) 247 dX1_doRename_244 rfl mv_X1_403 rfl rfl (hU2.ks.l6 (by omega)) (xnh rfl) (by omega) (xst (Nat.le_of_ble_eq_true rfl)) (c_X7_isDirectory hU2.ks (by omega) (by omega) ?_)
        change X _ _ _ _ _ _ _ _ _ _
        refine x_vi (w := b2i (iDir r_2.2.1 g)) rfl ?_
        refine x_if_eq 254 250 dX1_doRename_247 (by decide) rfl (fun c247 => ?_) (fun c247 => ?_)
        · skip
          have c247 : ¬ (iDir r_2.2.1 g) := b2i_0.mp c247
          rw [cif_f (show ¬ iDir r_2.2.1 g from c247)] at hq
          refine x_iconst (v := 1) 255 dX1_doRename_254 rfl rfl ?_
          refine x_aload 257 dX1_doRename_255 rfl rfl ?_
          refine x_geti 260 dX1_doRename_257 rfl fl_X1_448 (hU2.ks.l6 (by omega)) ?_
          refine x_vi (w := r_2.2.1 6 g 0) rfl ?_
          refine x_vi (w := nI g) (hK_2.nm.1 g (by omega)) ?_
          obtain ⟨r_3, hd3⟩ : ∃ r : kO, r = kAccess x.N r_2.2 me 1 (nI g) 0 0 1 := ⟨_, rfl⟩
          rw [← hd3] at hq
          have hK_3 : KI r_3.2 x.N ((mm + 2) + 1) := by rw [hd3]; exact hK_2.access (hoaN (g := 1) (by omega) (kOf1 (by omega)))
          have hS_3 : kSx (I, R, th) r_3.2 := (hS_2).trans (by rw [hd3]; exact sx_access)
          refine x_callV (as := [.int 1, .int (nI g)]) (rest := []) (i := 0) (n' := n - 1) 263 dX1_doRename_260 rfl mv_X1_588 rfl rfl (hU2.ks.l0 (by omega)) (xnh rfl) (by omega) (xst (Nat.le_of_ble_eq_true rfl)) (c_X1_writes (g := 1) (oa := nI g) hU2 hK_2 (hoaN (g := 1) (by omega) (kOf1 (by omega))) (by omega) ((hS_2).2 0 0 19 rfl |>.trans hme) hme16 (by omega) (kOutN hd3 ⟨?_, ?_⟩))
          · skip
            intro hz3 w3 hU3
            change X _ _ _ _ _ _ _ _ _ _
            rw [kU_ok hz3] at hq
            exact s263_ren_g hU3 hK_3 ((hp.fx (hS_3).1)) (tp_fx htp (hS_3).1) ((hp2.fx (hS_3).1)) h1 h12 hdN hfN htN hs1 hgN (by omega) ((hS_3).2 0 0 19 rfl |>.trans hme) hme16 (by omega) hq
          · skip
            intro hz3 w3 hU3
            rw [kU_no hz3] at hq
            exact hq.no hz3 hU3
        · skip
          have c247 : iDir r_2.2.1 g := b2i_n0.mp c247
          rw [cif_t (show iDir r_2.2.1 g from c247)] at hq
          refine x_iconst (v := 4) 251 dX1_doRename_250 rfl rfl ?_
          refine x_goto 255 dX1_doRename_251 (by decide) ?_
          refine x_aload 257 dX1_doRename_255 rfl rfl ?_
          refine x_geti 260 dX1_doRename_257 rfl fl_X1_448 (hU2.ks.l6 (by omega)) ?_
          refine x_vi (w := r_2.2.1 6 g 0) rfl ?_
          refine x_vi (w := nI g) (hK_2.nm.1 g (by omega)) ?_
          obtain ⟨r_3, hd3⟩ : ∃ r : kO, r = kAccess x.N r_2.2 me 4 (nI g) 0 0 1 := ⟨_, rfl⟩
          rw [← hd3] at hq
          have hK_3 : KI r_3.2 x.N ((mm + 2) + 1) := by rw [hd3]; exact hK_2.access (hoaN (g := 4) (by omega) (kOf4 (by omega)))
          have hS_3 : kSx (I, R, th) r_3.2 := (hS_2).trans (by rw [hd3]; exact sx_access)
          refine x_callV (as := [.int 4, .int (nI g)]) (rest := []) (i := 0) (n' := n - 1) 263 dX1_doRename_260 rfl mv_X1_588 rfl rfl (hU2.ks.l0 (by omega)) (xnh rfl) (by omega) (xst (Nat.le_of_ble_eq_true rfl)) (c_X1_writes (g := 4) (oa := nI g) hU2 hK_2 (hoaN (g := 4) (by omega) (kOf4 (by omega))) (by omega) ((hS_2).2 0 0 19 rfl |>.trans hme) hme16 (by omega) (kOutN hd3 ⟨?_, ?_⟩))
          · skip
            intro hz3 w3 hU3
            change X _ _ _ _ _ _ _ _ _ _
            rw [kU_ok hz3] at hq
            exact s263_ren_g hU3 hK_3 ((hp.fx (hS_3).1)) (tp_fx htp (hS_3).1) ((hp2.fx (hS_3).1)) h1 h12 hdN hfN htN hs1 hgN (by omega) ((hS_3).2 0 0 19 rfl |>.trans hme) hme16 (by omega) hq
          · skip
            intro hz3 w3 hU3
            rw [kU_no hz3] at hq
            exact hq.no hz3 hU3
      · skip
        rw [if_pos (by rw [← hx1]; exact c223)] at hq
        refine x_aload_n 227 dX1_doRename_226 rfl rfl ?_
        refine x_getz 230 dX1_doRename_227 rfl fl_X1_53 (hU2.ks.l0 (by omega)) (hU2.ks.z0_10 (by omega)) ?_
        refine x_bipush (v := -6) 232 dX1_doRename_230 rfl rfl ?_
        refine x_callV (as := [.int (-6)]) (rest := []) (i := 0) (n' := n - 1) 235 dX1_doRename_232 rfl mv_X1_364 rfl rfl (hU2.ks.l3 (by omega)) (xnh rfl) (by omega) (xst (Nat.le_of_ble_eq_true rfl)) (c_X4_by hU2.ks (by omega) ?_)
        change X _ _ _ _ _ _ _ _ _ _
        refine k_nmA (v := w2) (A1 := (xu r_2.2.1 3 0 0 ((-6)))) (by (repeat (first | rw [kI_xu] | rw [kI_xur] | rw [kI_xfil])) <;> rfl) fun I1 hI1 => ?_
        refine x_athrow dX1_doRename_235 (xnh rfl) ?_
        rw [hI1]
        exact hq.thr (by decide) hU2
    · skip
      intro hz2 w2 hU2
      rw [kU_no hz2] at hq
      exact hq.no hz2 hU2
  · skip
    intro hz1 w1 hU1
    rw [kU_no hz1] at hq
    exact hq.no hz1 hU1
set_option maxHeartbeats 4000000 in
set_option maxRecDepth 100000 in
theorem s136_ren {G : xG} {n a b : Nat} {Q : Outcome → xS → Prop} {x : kX} {I : xI} {R : xR} {v : kV} {th : List xTh} {mm : Nat} (hT : KT x v th) (hK : KI (I, R, th) x.N mm) {st : Nat} {fr lg : Nat → Nat} (hp : PS I 0 st fr lg) {tp : Nat → Int32} (htp : I 27 0 = tp) {st2 : Nat} {fr2 lg2 : Nat → Nat} (hp2 : PS I 1 st2 fr2 lg2) (h1 : 1 ≤ st) (h12 : 1 ≤ st2) {d f t : Nat} (hdN : d < x.N) (hfN : f < x.N) (htN : t < x.N) {g : Nat} (hgN : g < x.N) (hmm : mm + 40 < 16384) {me : Nat} (hme : R 0 0 19 = some me) (hme16 : me < 16) (hn : 12 ≤ n) (hq : kOs Q x (kRn2 x.N (I, R, th) me tp fr lg st fr2 lg2 st2 d f t g)) : X G mX1_doRename n a b Q (kS I R x v) 136 [(1, .ref (x.ad 0 0)), (1, .ref (x.ad 6 d)), (1, .ref (x.ad 6 f)), (1, .ref (x.ad 6 t)), (1, .ref (x.ad 6 g)), xo] [] := by
  have hnb := hT.ks.nb
  unfold kRn2 at hq
  have hp12 := hp.2.1
  have hp22 := hp2.2.1
  have hent : iEntries I g ≤ 512 := cntN_le (P := fun q => ¬ I 41 g q ≤ 0) 512
  refine x_aload 138 dX1_doRename_136 rfl rfl ?_
  refine x_callV (as := []) (rest := []) (i := g) (n' := n - 1) 141 dX1_doRename_138 rfl mv_X1_403 rfl rfl (hT.ks.l6 (by omega)) (xnh rfl) (by omega) (xst (Nat.le_of_ble_eq_true rfl)) (c_X7_isDirectory hT.ks (by omega) (by omega) ?_)
  change X _ _ _ _ _ _ _ _ _ _
  refine x_vi (w := b2i (iDir I g)) rfl ?_
  refine x_if_eq 162 144 dX1_doRename_141 (by decide) rfl (fun c141 => ?_) (fun c141 => ?_)
  · skip
    have c141 : ¬ (iDir I g) := b2i_0.mp c141
    rw [cif_f (show ¬ (iDir I g ∧ 0 < iEntries I g) from fun h => c141 h.1)] at hq
    exact s162_ren_g hT hK ((hp.fx (kSx.rfl (s := (I, R, th))).1)) (tp_fx htp (kSx.rfl (s := (I, R, th))).1) ((hp2.fx (kSx.rfl (s := (I, R, th))).1)) h1 h12 hdN hfN htN hgN (by omega) ((kSx.rfl (s := (I, R, th))).2 0 0 19 rfl |>.trans hme) hme16 (by omega) hq
  · skip
    have c141 : iDir I g := b2i_n0.mp c141
    refine x_aload 146 dX1_doRename_144 rfl rfl ?_
    refine x_callV (as := []) (rest := []) (i := g) (n' := n - 1) 149 dX1_doRename_146 rfl mv_X1_671 rfl rfl (hT.ks.l6 (by omega)) (xnh rfl) (by omega) (xst (Nat.le_of_ble_eq_true rfl)) (c_X7_entries hT.ks (by omega) (by omega) ?_)
    change X _ _ _ _ _ _ _ _ _ _
    refine x_vi (w := nI (iEntries I g)) rfl ?_
    refine x_if_le 162 152 dX1_doRename_149 (by decide) rfl (fun c149 => ?_) (fun c149 => ?_)
    · skip
      rw [nI_le0 (by omega)] at c149
      rw [cif_f (show ¬ (iDir I g ∧ 0 < iEntries I g) from fun h => absurd h.2 (by omega))] at hq
      exact s162_ren_g hT hK ((hp.fx (kSx.rfl (s := (I, R, th))).1)) (tp_fx htp (kSx.rfl (s := (I, R, th))).1) ((hp2.fx (kSx.rfl (s := (I, R, th))).1)) h1 h12 hdN hfN htN hgN (by omega) ((kSx.rfl (s := (I, R, th))).2 0 0 19 rfl |>.trans hme) hme16 (by omega) hq
    · skip
      rw [nI_le0 (by omega)] at c149
      rw [cif_t (show iDir I g ∧ 0 < iEntries I g from ⟨c141, by omega⟩)] at hq
      refine x_aload_n 153 dX1_doRename_152 rfl rfl ?_
      refine x_getz 156 dX1_doRename_153 rfl fl_X1_53 (hT.ks.l0 (by omega)) (hT.ks.z0_10 (by omega)) ?_
      refine x_bipush (v := -12) 158 dX1_doRename_156 rfl rfl ?_
      refine x_callV (as := [.int (-12)]) (rest := []) (i := 0) (n' := n - 1) 161 dX1_doRename_158 rfl mv_X1_364 rfl rfl (hT.ks.l3 (by omega)) (xnh rfl) (by omega) (xst (Nat.le_of_ble_eq_true rfl)) (c_X4_by hT.ks (by omega) ?_)
      change X _ _ _ _ _ _ _ _ _ _
      refine k_nmA (v := v) (A1 := (xu I 3 0 0 ((-12)))) (by (repeat (first | rw [kI_xu] | rw [kI_xur] | rw [kI_xfil])) <;> rfl) fun I1 hI1 => ?_
      refine x_athrow dX1_doRename_161 (xnh rfl) ?_
      rw [hI1]
      exact hq.thr (by decide) hT
set_option maxHeartbeats 4000000 in
set_option maxRecDepth 100000 in
theorem s91_ren_g {G : xG} {n a b : Nat} {Q : Outcome → xS → Prop} {x : kX} {I : xI} {R : xR} {v : kV} {th : List xTh} {mm : Nat} (hT : KT x v th) (hK : KI (I, R, th) x.N mm) {st : Nat} {fr lg : Nat → Nat} (hp : PS I 0 st fr lg) {tp : Nat → Int32} (htp : I 27 0 = tp) {st2 : Nat} {fr2 lg2 : Nat → Nat} (hp2 : PS I 1 st2 fr2 lg2) (h1 : 1 ≤ st) (h12 : 1 ≤ st2) {d f t : Nat} (hdN : d < x.N) (hfN : f < x.N) (htN : t < x.N) {g : Nat} (hgN : g < x.N) (hmm : mm + 50 < 16384) {me : Nat} (hme : R 0 0 19 = some me) (hme16 : me < 16) (hn : 12 ≤ n) (hq : kOs Q x (kRn1 x.N (I, R, th) me tp fr lg st fr2 lg2 st2 d f t (some g))) : X G mX1_doRename n a b Q (kS I R x v) 91 [(1, .ref (x.ad 0 0)), (1, .ref (x.ad 6 d)), (1, .ref (x.ad 6 f)), (1, .ref (x.ad 6 t)), (1, .ref (x.ad 6 g)), xo] [] := by
  have hnb := hT.ks.nb
  unfold kRn1 at hq
  have hp12 := hp.2.1
  have hp22 := hp2.2.1
  dsimp only at hq
  refine x_aload 93 dX1_doRename_91 rfl rfl ?_
  refine x_asR ?_
  refine x_ifnull 162 96 dX1_doRename_93 (by decide) rfl (fun h => nomatch h) (fun _ _ => ?_)
  refine x_aload_n 97 dX1_doRename_96 rfl rfl ?_
  refine x_geti 100 dX1_doRename_97 rfl fl_X1_182 (hT.ks.l6 (by omega)) ?_
  refine x_vi (w := I 6 f 1) rfl ?_
  refine x_aload 102 dX1_doRename_100 rfl rfl ?_
  refine x_geti 105 dX1_doRename_102 rfl fl_X1_182 (hT.ks.l6 (by omega)) ?_
  refine x_vi (w := I 6 g 1) rfl ?_
  refine x_icmp_eq 118 108 dX1_doRename_105 (by decide) rfl (fun c105 => ?_) (fun c105 => ?_)
  · skip
    rw [if_pos c105] at hq
    refine x_aload 120 dX1_doRename_118 rfl rfl ?_
    refine x_callV (as := []) (rest := []) (i := g) (n' := n - 1) 123 dX1_doRename_120 rfl mv_X1_403 rfl rfl (hT.ks.l6 (by omega)) (xnh rfl) (by omega) (xst (Nat.le_of_ble_eq_true rfl)) (c_X7_isDirectory hT.ks (by omega) (by omega) ?_)
    change X _ _ _ _ _ _ _ _ _ _
    refine x_vi (w := b2i (iDir I g)) rfl ?_
    refine x_if_eq 136 126 dX1_doRename_123 (by decide) rfl (fun c123 => ?_) (fun c123 => ?_)
    · skip
      have c123 : ¬ (iDir I g) := b2i_0.mp c123
      rw [cif_f (show ¬ iDir I g from c123)] at hq
      exact s136_ren hT hK ((hp.fx (kSx.rfl (s := (I, R, th))).1)) (tp_fx htp (kSx.rfl (s := (I, R, th))).1) ((hp2.fx (kSx.rfl (s := (I, R, th))).1)) h1 h12 hdN hfN htN hgN (by omega) ((kSx.rfl (s := (I, R, th))).2 0 0 19 rfl |>.trans hme) hme16 (by omega) hq
    · skip
      have c123 : iDir I g := b2i_n0.mp c123
      rw [cif_t (show iDir I g from c123)] at hq
      refine x_aload_n 127 dX1_doRename_126 rfl rfl ?_
      refine x_iconst (v := 3) 128 dX1_doRename_127 rfl rfl ?_
      refine x_aload 130 dX1_doRename_128 rfl rfl ?_
      refine x_geti 133 dX1_doRename_130 rfl fl_X1_448 (hT.ks.l6 (by omega)) ?_
      refine x_vi (w := I 6 g 0) rfl ?_
      refine x_vi (w := nI g) (hK.nm.1 g (by omega)) ?_
      obtain ⟨r_1, hd1⟩ : ∃ r : kO, r = kAccess x.N (I, R, th) me 3 (nI g) 0 0 0 := ⟨_, rfl⟩
      rw [← hd1] at hq
      have hK_1 : KI r_1.2 x.N (mm + 1) := by rw [hd1]; exact hK.access (hoaN (g := 3) (by omega) kOf3)
      have hS_1 : kSx (I, R, th) r_1.2 := (kSx.rfl (s := (I, R, th))).trans (by rw [hd1]; exact sx_access)
      refine x_callV (as := [.int 3, .int (nI g)]) (rest := []) (i := 0) (n' := n - 1) 136 dX1_doRename_133 rfl mv_X1_650 rfl rfl (hT.ks.l0 (by omega)) (xnh rfl) (by omega) (xst (Nat.le_of_ble_eq_true rfl)) (c_X1_reads (g := 3) (oa := nI g) hT hK (hoaN (g := 3) (by omega) kOf3) (by omega) ((kSx.rfl (s := (I, R, th))).2 0 0 19 rfl |>.trans hme) hme16 (by omega) (kOutN hd1 ⟨?_, ?_⟩))
      · skip
        intro hz1 w1 hU1
        change X _ _ _ _ _ _ _ _ _ _
        rw [kU_ok hz1] at hq
        exact s136_ren hU1 hK_1 ((hp.fx (hS_1).1)) (tp_fx htp (hS_1).1) ((hp2.fx (hS_1).1)) h1 h12 hdN hfN htN hgN (by omega) ((hS_1).2 0 0 19 rfl |>.trans hme) hme16 (by omega) hq
      · skip
        intro hz1 w1 hU1
        rw [kU_no hz1] at hq
        exact hq.no hz1 hU1
  · skip
    rw [if_neg c105] at hq
    refine x_aload_n 109 dX1_doRename_108 rfl rfl ?_
    refine x_getz 112 dX1_doRename_109 rfl fl_X1_53 (hT.ks.l0 (by omega)) (hT.ks.z0_10 (by omega)) ?_
    refine x_bipush (v := -4) 114 dX1_doRename_112 rfl rfl ?_
    refine x_callV (as := [.int (-4)]) (rest := []) (i := 0) (n' := n - 1) 117 dX1_doRename_114 rfl mv_X1_364 rfl rfl (hT.ks.l3 (by omega)) (xnh rfl) (by omega) (xst (Nat.le_of_ble_eq_true rfl)) (c_X4_by hT.ks (by omega) ?_)
    change X _ _ _ _ _ _ _ _ _ _
    refine k_nmA (v := v) (A1 := (xu I 3 0 0 ((-4)))) (by (repeat (first | rw [kI_xu] | rw [kI_xur] | rw [kI_xfil])) <;> rfl) fun I1 hI1 => ?_
    refine x_athrow dX1_doRename_117 (xnh rfl) ?_
    rw [hI1]
    exact hq.thr (by decide) hT
set_option maxHeartbeats 4000000 in
set_option maxRecDepth 100000 in
theorem s91_ren_none {G : xG} {n a b : Nat} {Q : Outcome → xS → Prop} {x : kX} {I : xI} {R : xR} {v : kV} {th : List xTh} {mm : Nat} (hT : KT x v th) (hK : KI (I, R, th) x.N mm) {st : Nat} {fr lg : Nat → Nat} (hp : PS I 0 st fr lg) {tp : Nat → Int32} (htp : I 27 0 = tp) {st2 : Nat} {fr2 lg2 : Nat → Nat} (hp2 : PS I 1 st2 fr2 lg2) (h1 : 1 ≤ st) (h12 : 1 ≤ st2) {d f t : Nat} (hdN : d < x.N) (hfN : f < x.N) (htN : t < x.N) (hmm : mm + 50 < 16384) {me : Nat} (hme : R 0 0 19 = some me) (hme16 : me < 16) (hn : 12 ≤ n) (hq : kOs Q x (kRn1 x.N (I, R, th) me tp fr lg st fr2 lg2 st2 d f t none)) : X G mX1_doRename n a b Q (kS I R x v) 91 [(1, .ref (x.ad 0 0)), (1, .ref (x.ad 6 d)), (1, .ref (x.ad 6 f)), (1, .ref (x.ad 6 t)), (1, va_re (x.ad 6) none), xo] [] := by
  have hnb := hT.ks.nb
  unfold kRn1 at hq
  have hp12 := hp.2.1
  have hp22 := hp2.2.1
  dsimp only at hq
  refine x_aload_r 93 dX1_doRename_91 rfl rfl ?_
  refine x_ifnull 162 96 dX1_doRename_93 (by decide) rfl (fun _ => ?_) (fun j hj => absurd (rfl.symm.trans hj) (by simp))
  exact s162_ren_none hT hK ((hp.fx (kSx.rfl (s := (I, R, th))).1)) (tp_fx htp (kSx.rfl (s := (I, R, th))).1) ((hp2.fx (kSx.rfl (s := (I, R, th))).1)) h1 h12 hdN hfN htN (by omega) ((kSx.rfl (s := (I, R, th))).2 0 0 19 rfl |>.trans hme) hme16 (by omega) hq
set_option maxHeartbeats 4000000 in
set_option maxRecDepth 100000 in
theorem c_X1_doRename {G : xG} {n : Nat} {Q : Outcome → xS → Prop} {x : kX} {I : xI} {R : xR} {v : kV} {th : List xTh} {mm : Nat} (hT : KT x v th) (hK : KI (I, R, th) x.N mm) {st : Nat} {fr lg : Nat → Nat} (hp : PS I 0 st fr lg) {tp : Nat → Int32} (htp : I 27 0 = tp) {st2 : Nat} {fr2 lg2 : Nat → Nat} (hp2 : PS I 1 st2 fr2 lg2) (h1 : 1 ≤ st) (h12 : 1 ≤ st2) (hmm : mm + 200 < 16384) {me : Nat} (hme : R 0 0 19 = some me) (hme16 : me < 16) (hn : 14 ≤ n) (hq : kOs Q x (kDoRen x.N (I, R, th) me tp fr lg st fr2 lg2 st2)) : xCall G mX1_doRename n [.ref (x.ad 0 0)] (kS I R x v) Q := by
  refine x_met (L0 := [(1, .ref (x.ad 0 0)), xo, xo, xo, xo, xo]) (by decide +kernel) rfl ⟨Nat.le_of_ble_eq_true rfl, rfl⟩ ?_
  have hnb := hT.ks.nb
  unfold kDoRen at hq
  have hp12 := hp.2.1
  have hp22 := hp2.2.1
  refine x_aload_n 1 dX1_doRename_0 rfl rfl ?_
  refine x_getz 4 dX1_doRename_1 rfl fl_X1_76 (hT.ks.l0 (by omega)) (hT.ks.z0_23 (by omega)) ?_
  try unfold kLst at hq
  obtain ⟨hw_1, hq⟩ := hq.asB
  have hwk_1 := kWk_some hw_1
  have hwN_1 := hK.rf.wk hwk_1
  obtain ⟨r_1, hd1⟩ : ∃ r : kO × Nat, r = kLast x.N (I, R, th) me tp fr lg (kBeg ((I, R, th)).1 0 (kWk (I, R, th) me)) st := ⟨_, rfl⟩
  rw [← hd1] at hq
  have hKS_1 := KI.last (me := me) (tp := tp) (fr := fr) (lg := lg) hK (d := (kBeg ((I, R, th)).1 0 (kWk (I, R, th) me))) (kBeg_lt hwN_1) (by omega) (st := st) (by omega)
  rw [← hd1] at hKS_1
  obtain ⟨hKa_1, hSa_1, hdN_1⟩ := hKS_1
  have hK_1 := hKa_1.le (m' := mm + 12) (by omega)
  have hS_1 := (kSx.rfl (s := (I, R, th))).trans hSa_1
  refine x_callV (as := []) (rest := []) (i := 0) (n' := n - 1) 7 dX1_doRename_4 rfl mv_X1_616 rfl rfl (hT.ks.l4 (by omega)) (xnh rfl) (by omega) (xst (Nat.le_of_ble_eq_true rfl)) (c_X5_last (i := 0) (fr := fr) (lg := lg) hT hK (by omega) (hp.fx (kSx.rfl (s := (I, R, th))).1) (tp_fx htp (kSx.rfl (s := (I, R, th))).1) (by omega) ((kSx.rfl (s := (I, R, th))).2 0 0 19 rfl |>.trans hme) hme16 hwk_1 hwN_1 (by omega) (by omega) (kOutP hd1 ⟨?_, ?_⟩))
  · skip
    intro hz1 w1 hU1
    change X _ _ _ _ _ _ _ _ _ _
    rw [kB_ok hz1] at hq
    refine x_astore_n 8 [(1, .ref (x.ad 0 0)), (1, .ref (x.ad 6 r_1.2)), xo, xo, xo, xo] dX1_doRename_7 rfl (by decide) rfl ?_
    refine x_aload_n 9 dX1_doRename_8 rfl rfl ?_
    refine x_getz 12 dX1_doRename_9 rfl fl_X1_76 (hU1.ks.l0 (by omega)) (hU1.ks.z0_23 (by omega)) ?_
    refine x_aload_n 13 dX1_doRename_12 rfl rfl ?_
    refine x_callV (as := [.ref (x.ad 6 r_1.2)]) (rest := []) (i := 0) (n' := n - 1) 16 dX1_doRename_13 rfl mv_X1_619 rfl rfl (hU1.ks.l4 (by omega)) (xnh rfl) (by omega) (xst (Nat.le_of_ble_eq_true rfl)) (c_X5_lastEntry (I := kI r_1.1.2.1 w1.t) (i := 0) (fr := fr) (lg := lg) (d := r_1.2) hU1.ks (by omega) (show PS r_1.1.2.1 0 st fr lg from (hp.fx (hS_1).1)) (by omega) (by omega) (fun d_ s_ _ _ => hK_1.wf.now d_ s_) (by omega) ?_)
    change X _ _ _ _ _ _ _ _ _ _
    refine x_vr (w := iEntry r_1.1.2.1 r_1.2 tp (fr (st - 1)) (lg (st - 1))) (by rw [← (tp_fx htp (hS_1).1)]; rfl) ?_
    refine x_nmr fun r1 hr1 => ?_
    refine x_astore_nr 17 [(1, .ref (x.ad 0 0)), (1, .ref (x.ad 6 r_1.2)), (1, va_re (x.ad 6) r1), xo, xo, xo] dX1_doRename_16 rfl (by decide) rfl ?_
    refine x_aload_nr 18 dX1_doRename_17 rfl rfl ?_
    refine x_ifnonnull 31 21 dX1_doRename_18 (by decide) rfl (fun j1 c18 => ?_) (fun c18 => ?_)
    · skip
      rw [← hr1, c18] at hq
      dsimp only at hq
      have hjN := iEntry_N hK_1.wf (by omega) (by omega) hr1 c18
      refine x_aload_n 32 dX1_doRename_31 rfl rfl ?_
      refine x_getz 35 dX1_doRename_32 rfl fl_X1_80 (hU1.ks.l0 (by omega)) (hU1.ks.z0_24 (by omega)) ?_
      try unfold kLst at hq
      obtain ⟨hw_2, hq⟩ := hq.asB
      have hwk_2 := kWk_some hw_2
      have hwN_2 := hK_1.rf.wk hwk_2
      obtain ⟨r_2, hd2⟩ : ∃ r : kO × Nat, r = kLast x.N r_1.1.2 me tp fr2 lg2 (kBeg r_1.1.2.1 1 (kWk r_1.1.2 me)) st2 := ⟨_, rfl⟩
      rw [← hd2] at hq
      have hKS_2 := KI.last (me := me) (tp := tp) (fr := fr2) (lg := lg2) hK_1 (d := (kBeg r_1.1.2.1 1 (kWk r_1.1.2 me))) (kBeg_lt hwN_2) (by omega) (st := st2) (by omega)
      rw [← hd2] at hKS_2
      obtain ⟨hKa_2, hSa_2, hdN_2⟩ := hKS_2
      have hK_2 := hKa_2.le (m' := (mm + 12) + 12) (by omega)
      have hS_2 := (hS_1).trans hSa_2
      refine x_callV (as := []) (rest := []) (i := 1) (n' := n - 1) 38 dX1_doRename_35 rfl mv_X1_616 rfl rfl (hU1.ks.l4 (by omega)) (xnh rfl) (by omega) (xst (Nat.le_of_ble_eq_true rfl)) (c_X5_last (i := 1) (fr := fr2) (lg := lg2) hU1 hK_1 (by omega) (hp2.fx (hS_1).1) (tp_fx htp (hS_1).1) (by omega) ((hS_1).2 0 0 19 rfl |>.trans hme) hme16 hwk_2 hwN_2 (by omega) (by omega) (kOutP hd2 ⟨?_, ?_⟩))
      · skip
        intro hz2 w2 hU2
        change X _ _ _ _ _ _ _ _ _ _
        rw [kB_ok hz2] at hq
        refine x_astore_n 39 [(1, .ref (x.ad 0 0)), (1, .ref (x.ad 6 r_1.2)), (1, va_re (x.ad 6) r1), (1, .ref (x.ad 6 r_2.2)), xo, xo] dX1_doRename_38 rfl (by decide) rfl ?_
        refine x_aload_n 40 dX1_doRename_39 rfl rfl ?_
        refine x_getz 43 dX1_doRename_40 rfl fl_X1_80 (hU2.ks.l0 (by omega)) (hU2.ks.z0_24 (by omega)) ?_
        refine x_aload_n 44 dX1_doRename_43 rfl rfl ?_
        refine x_callV (as := [.ref (x.ad 6 r_2.2)]) (rest := []) (i := 1) (n' := n - 1) 47 dX1_doRename_44 rfl mv_X1_619 rfl rfl (hU2.ks.l4 (by omega)) (xnh rfl) (by omega) (xst (Nat.le_of_ble_eq_true rfl)) (c_X5_lastEntry (I := kI r_2.1.2.1 w2.t) (i := 1) (fr := fr2) (lg := lg2) (d := r_2.2) hU2.ks (by omega) (show PS r_2.1.2.1 1 st2 fr2 lg2 from (hp2.fx (hS_2).1)) (by omega) (by omega) (fun d_ s_ _ _ => hK_2.wf.now d_ s_) (by omega) ?_)
        change X _ _ _ _ _ _ _ _ _ _
        refine x_vr (w := iEntry r_2.1.2.1 r_2.2 tp (fr2 (st2 - 1)) (lg2 (st2 - 1))) (by rw [← (tp_fx htp (hS_2).1)]; rfl) ?_
        refine x_nmr fun r2 hr2 => ?_
        refine x_astore_r 49 [(1, .ref (x.ad 0 0)), (1, .ref (x.ad 6 r_1.2)), (1, va_re (x.ad 6) r1), (1, .ref (x.ad 6 r_2.2)), (1, va_re (x.ad 6) r2), xo] dX1_doRename_47 rfl (by decide) rfl ?_
        have hg2 : ∀ g_, r2 = some g_ → g_ < x.N := fun g_ hg_ => iEntry_N hK_2.wf (by omega) (by omega) hr2 hg_
        refine x_aload_r 51 dX1_doRename_49 rfl rfl ?_
        refine x_aload_nr 52 dX1_doRename_51 rfl rfl ?_
        refine x_some c18 ?_
        refine x_asR ?_
        refine x_acmp_ne (c := 6) 57 55 dX1_doRename_52 (by decide) rfl (fun _ h => hU2.ks.l6 (hg2 _ h)) (fun _ h => by cases h; exact (hU2.ks.l6 (by omega))) (fun c52 => ?_) (fun c52 => ?_)
        · skip
          rw [if_neg (by rw [← hr2]; exact c52)] at hq
          refine x_aload_n 58 dX1_doRename_57 rfl rfl ?_
          refine x_aload_n 59 dX1_doRename_58 rfl rfl ?_
          refine x_geti 62 dX1_doRename_59 rfl fl_X1_291 (hU2.ks.l0 (by omega)) ?_
          refine x_vi (w := r_2.1.2.1 0 0 21) rfl ?_
          refine x_callV (as := [.int (r_2.1.2.1 0 0 21)]) (rest := []) (i := r_2.2) (n' := n - 1) 65 dX1_doRename_62 rfl mv_X1_677 rfl rfl (hU2.ks.l6 (by omega)) (xnh rfl) (by omega) (xst (Nat.le_of_ble_eq_true rfl)) (c_X7_namesFor hU2.ks (by omega) (by omega) ?_)
          change X _ _ _ _ _ _ _ _ _ _
          refine x_vi (w := iNamesFor r_2.1.2.1 r_2.2 (r_2.1.2.1 0 0 21)) rfl ?_
          refine x_if_ne 78 68 dX1_doRename_65 (by decide) rfl (fun c65 => ?_) (fun c65 => ?_)
          · skip
            rw [if_neg c65] at hq
            refine x_aload_nr 79 dX1_doRename_78 rfl rfl ?_
            refine x_some c18 ?_
            refine x_callV (as := []) (rest := []) (i := j1) (n' := n - 1) 82 dX1_doRename_79 rfl mv_X1_403 rfl rfl (hU2.ks.l6 (by omega)) (xnh rfl) (by omega) (xst (Nat.le_of_ble_eq_true rfl)) (c_X7_isDirectory hU2.ks (by omega) (by omega) ?_)
            change X _ _ _ _ _ _ _ _ _ _
            refine x_vi (w := b2i (iDir r_2.1.2.1 j1)) rfl ?_
            refine x_if_eq 91 85 dX1_doRename_82 (by decide) rfl (fun c82 => ?_) (fun c82 => ?_)
            · skip
              have c82 : ¬ (iDir r_2.1.2.1 j1) := b2i_0.mp c82
              rw [cif_f (show ¬ iDir r_2.1.2.1 j1 from c82)] at hq
              rw [c18]
              rw [← hr2] at hq
              clear hr2
              rcases r2 with _ | g_
              · exact s91_ren_none hU2 hK_2 ((hp.fx (hS_2).1)) (tp_fx htp (hS_2).1) ((hp2.fx (hS_2).1)) h1 h12 hdN_1 hjN hdN_2 (by omega) ((hS_2).2 0 0 19 rfl |>.trans hme) hme16 (by omega) hq
              · have hgN := hg2 g_ rfl
                exact s91_ren_g hU2 hK_2 ((hp.fx (hS_2).1)) (tp_fx htp (hS_2).1) ((hp2.fx (hS_2).1)) h1 h12 hdN_1 hjN hdN_2 hgN (by omega) ((hS_2).2 0 0 19 rfl |>.trans hme) hme16 (by omega) hq
            · skip
              have c82 : iDir r_2.1.2.1 j1 := b2i_n0.mp c82
              rw [cif_t (show iDir r_2.1.2.1 j1 from c82)] at hq
              refine x_aload_n 86 dX1_doRename_85 rfl rfl ?_
              refine x_aload_nr 87 dX1_doRename_86 rfl rfl ?_
              refine x_some c18 ?_
              refine x_aload_n 88 dX1_doRename_87 rfl rfl ?_
              obtain ⟨r_3, hd3⟩ : ∃ r : kO, r = kLk x.N me j1 64 r_2.1.2 r_2.2 := ⟨_, rfl⟩
              rw [← hd3] at hq
              have hKS_3 := KI.lk (me := me) (f := j1) (by omega) 64 (p := r_2.2) hK_2 (by omega)
              rw [← hd3] at hKS_3
              obtain ⟨hK_3, hSa_3⟩ := hKS_3
              have hS_3 := (hS_2).trans hSa_3
              refine x_callV (as := [.ref (x.ad 6 j1), .ref (x.ad 6 r_2.2)]) (rest := []) (i := 0) (n' := n - 1) 91 dX1_doRename_88 rfl mv_X1_685 rfl rfl (hU2.ks.l0 (by omega)) (xnh rfl) (by omega) (xst (Nat.le_of_ble_eq_true rfl)) (c_X1_lookUp (u := 64) (f := j1) (t := r_2.2) hU2 hK_2 (by omega) (by omega) (by omega) ((hS_2).2 0 0 19 rfl |>.trans hme) hme16 (by omega) (kOvN hd3 ⟨fun h99 => ?_, ⟨?_, ?_⟩⟩))
              · skip
                rw [kU_no (by rw [h99]; decide)] at hq
                exact hq.1 h99
              · skip
                intro hz3 w3 hU3
                change X _ _ _ _ _ _ _ _ _ _
                rw [kU_ok hz3] at hq
                rw [c18]
                rw [← hr2] at hq
                clear hr2
                rcases r2 with _ | g_
                · exact s91_ren_none hU3 hK_3 ((hp.fx (hS_3).1)) (tp_fx htp (hS_3).1) ((hp2.fx (hS_3).1)) h1 h12 hdN_1 hjN hdN_2 (by omega) ((hS_3).2 0 0 19 rfl |>.trans hme) hme16 (by omega) hq
                · have hgN := hg2 g_ rfl
                  exact s91_ren_g hU3 hK_3 ((hp.fx (hS_3).1)) (tp_fx htp (hS_3).1) ((hp2.fx (hS_3).1)) h1 h12 hdN_1 hjN hdN_2 hgN (by omega) ((hS_3).2 0 0 19 rfl |>.trans hme) hme16 (by omega) hq
              · skip
                intro hz3 w3 hU3
                rw [kU_no hz3] at hq
                exact hq.no hz3 hU3
          · skip
            rw [if_pos c65] at hq
            refine x_aload_n 69 dX1_doRename_68 rfl rfl ?_
            refine x_getz 72 dX1_doRename_69 rfl fl_X1_53 (hU2.ks.l0 (by omega)) (hU2.ks.z0_10 (by omega)) ?_
            refine x_bipush (v := -2) 74 dX1_doRename_72 rfl rfl ?_
            refine x_callV (as := [.int (-2)]) (rest := []) (i := 0) (n' := n - 1) 77 dX1_doRename_74 rfl mv_X1_364 rfl rfl (hU2.ks.l3 (by omega)) (xnh rfl) (by omega) (xst (Nat.le_of_ble_eq_true rfl)) (c_X4_by hU2.ks (by omega) ?_)
            change X _ _ _ _ _ _ _ _ _ _
            refine k_nmA (v := w2) (A1 := (xu r_2.1.2.1 3 0 0 ((-2)))) (by (repeat (first | rw [kI_xu] | rw [kI_xur] | rw [kI_xfil])) <;> rfl) fun I1 hI1 => ?_
            refine x_athrow dX1_doRename_77 (xnh rfl) ?_
            rw [hI1]
            exact hq.thr (by decide) hU2
        · skip
          rw [if_pos (by rw [← hr2]; exact c52)] at hq
          refine x_iconst (v := 0) 56 dX1_doRename_55 rfl rfl ?_
          refine x_ireturn dX1_doRename_56 rfl ?_
          exact hq.ret hU2
      · skip
        intro hz2 w2 hU2
        rw [kB_no hz2] at hq
        exact hq.no hz2 hU2
    · skip
      rw [← hr1, c18] at hq
      dsimp only at hq
      refine x_aload_n 22 dX1_doRename_21 rfl rfl ?_
      refine x_getz 25 dX1_doRename_22 rfl fl_X1_53 (hU1.ks.l0 (by omega)) (hU1.ks.z0_10 (by omega)) ?_
      refine x_bipush (v := -2) 27 dX1_doRename_25 rfl rfl ?_
      refine x_callV (as := [.int (-2)]) (rest := []) (i := 0) (n' := n - 1) 30 dX1_doRename_27 rfl mv_X1_364 rfl rfl (hU1.ks.l3 (by omega)) (xnh rfl) (by omega) (xst (Nat.le_of_ble_eq_true rfl)) (c_X4_by hU1.ks (by omega) ?_)
      change X _ _ _ _ _ _ _ _ _ _
      refine k_nmA (v := w1) (A1 := (xu r_1.1.2.1 3 0 0 ((-2)))) (by (repeat (first | rw [kI_xu] | rw [kI_xur] | rw [kI_xfil])) <;> rfl) fun I1 hI1 => ?_
      refine x_athrow dX1_doRename_30 (xnh rfl) ?_
      rw [hI1]
      exact hq.thr (by decide) hU1
  · skip
    intro hz1 w1 hU1
    rw [kB_no hz1] at hq
    exact hq.no hz1 hU1
