set_option maxRecDepth 100000
/-! what calls do: an outcome, and what is told -/
abbrev kQ : Type := kO × Int32
def kB (r : kO × Nat) (f : kK → Nat → kQ) : kQ := if r.1.1 = 0 then f r.1.2 r.2 else (r.1, 0)
def kBI (r : kO × Int32) (f : kK → Int32 → kQ) : kQ := if r.1.1 = 0 then f r.1.2 r.2 else (r.1, 0)
def kU (r : kO) (f : kK → kQ) : kQ := if r.1 = 0 then f r.2 else (r, 0)
/-- what must be; 99 stands for what cannot come about -/
noncomputable def kAs (P : Prop) (s : kK) (r : kQ) : kQ := cif P r ((99, s), 0)
noncomputable def kAsN (P : Prop) (s : kK) (r : kO × Nat) : kO × Nat := cif P r ((99, s), 0)
def kRf (s : kK) (c : Int32) : kQ := (kRefuse s c, 0)
def kRt (s : kK) (v : Int32) : kQ := ((0, s), v)
def kOs (Q : Outcome → xS → Prop) (x : kX) (r : kQ) : Prop := ¬ r.1.1 = 99 ∧ kOut Q x r.1 (some (.int r.2))
section KQ
variable {Q : Outcome → xS → Prop} {x : kX} {r : kO × Nat} {ri : kO × Int32} {ru : kO} {f : kK → Nat → kQ} {fi : kK → Int32 → kQ} {fu : kK → kQ} {P : Prop} {s : kK} {q : kQ} {v' : kV} {c w : Int32}
theorem kB_ok (h : r.1.1 = 0) : kB r f = f r.1.2 r.2 := if_pos h
theorem kB_no (h : ¬ r.1.1 = 0) : kB r f = (r.1, 0) := if_neg h
theorem kBI_ok (h : ri.1.1 = 0) : kBI ri fi = fi ri.1.2 ri.2 := if_pos h
theorem kBI_no (h : ¬ ri.1.1 = 0) : kBI ri fi = (ri.1, 0) := if_neg h
theorem kU_ok (h : ru.1 = 0) : kU ru fu = fu ru.2 := if_pos h
theorem kU_no (h : ¬ ru.1 = 0) : kU ru fu = (ru, 0) := if_neg h
theorem kOs.as (h : kOs Q x (kAs P s q)) : P ∧ kOs Q x q := by
  unfold kAs at h
  by_cases e : P
  · rw [cif_t e] at h; exact ⟨e, h⟩
  · rw [cif_f e] at h; exact absurd rfl h.1
theorem kOs.asB (h : kOs Q x (kB (kAsN P s r) f)) : P ∧ kOs Q x (kB r f) := by
  unfold kAsN at h
  by_cases e : P
  · rw [cif_t e] at h; exact ⟨e, h⟩
  · rw [cif_f e] at h; exact absurd rfl h.1
theorem kOs.ret (h : kOs Q x (kRt s w)) (hT : KT x v' s.2.2) : Q (.returned (some (.int w))) (kS s.1 s.2.1 x v') := h.2.1 rfl v' hT
theorem kOs.thr (h : kOs Q x (kRf s c)) (hc : ¬ c = 0) (hT : KT x v' s.2.2) : Q (.threw (x.ad 3 0)) (kS (xu s.1 3 0 0 c) s.2.1 x v') := h.2.2 hc v' hT
theorem kOs.no (h : kOs Q x (ru, w)) (hz : ¬ ru.1 = 0) (hT : KT x v' ru.2.2.2) : Q (.threw (x.ad 3 0)) (kS ru.2.1 ru.2.2.1 x v') := h.2.2 hz v' hT
end KQ
theorem kOf0 {q N : Nat} (hq : q < N) : kOf 0 q N := ⟨fun _ => hq, fun h => absurd h (by decide), fun h => absurd h (by decide), fun h => absurd h (by decide), fun h => absurd h (by decide), fun h => absurd h (by decide)⟩
theorem kOf1 {q N : Nat} (hq : q < N) : kOf 1 q N := ⟨fun h => absurd h (by decide), fun _ => hq, fun h => absurd h (by decide), fun h => absurd h (by decide), fun h => absurd h (by decide), fun h => absurd h (by decide)⟩
theorem kOf3 {q N : Nat} : kOf 3 q N := ⟨fun h => absurd h (by decide), fun h => absurd h (by decide), fun h => absurd h (by decide), fun h => absurd h (by decide), fun h => absurd h (by decide), fun h => absurd h (by decide)⟩
theorem kOf5 {q N : Nat} (hq : q < 384) : kOf 5 q N := ⟨fun h => absurd h (by decide), fun h => absurd h (by decide), fun h => absurd h (by decide), fun _ => hq, fun h => absurd h (by decide), fun h => absurd h (by decide)⟩
theorem kOf6 {q N : Nat} (hq : q < 8) : kOf 6 q N := ⟨fun h => absurd h (by decide), fun h => absurd h (by decide), fun h => absurd h (by decide), fun h => absurd h (by decide), fun _ => hq, fun h => absurd h (by decide)⟩
theorem kOf7 {q N : Nat} : kOf 7 q N := ⟨fun h => absurd h (by decide), fun h => absurd h (by decide), fun h => absurd h (by decide), fun h => absurd h (by decide), fun h => absurd h (by decide), fun h => absurd h (by decide)⟩
theorem kOf8 {q N : Nat} (hq : q < 16) : kOf 8 q N := ⟨fun h => absurd h (by decide), fun h => absurd h (by decide), fun h => absurd h (by decide), fun h => absurd h (by decide), fun h => absurd h (by decide), fun _ => hq⟩
/-- the directory of work -/
def kWk (s : kK) (me : Nat) : Nat := (s.2.1 9 me 5).getD 0
noncomputable def kFnd (N : Nat) (s : kK) (me i : Nat) (tp : Nat → Int32) (fr lg : Nat → Nat) (st : Nat) : kO × Nat := kAsN (¬ s.2.1 9 me 5 = none) s (kWalk N s me tp fr lg (kBeg s.1 i (kWk s me)) st)
noncomputable def kLst (N : Nat) (s : kK) (me i : Nat) (tp : Nat → Int32) (fr lg : Nat → Nat) (st : Nat) : kO × Nat := kAsN (¬ s.2.1 9 me 5 = none) s (kLast N s me tp fr lg (kBeg s.1 i (kWk s me)) st)
theorem kWk_some {s : kK} {me : Nat} (h : ¬ s.2.1 9 me 5 = none) : s.2.1 9 me 5 = some (kWk s me) := by
  unfold kWk
  cases e : s.2.1 9 me 5 with
  | none => exact absurd e h
  | some k => rfl
theorem kBeg_lt {I : xI} {i wk N : Nat} (h : wk < N) : kBeg I i wk < N := by unfold kBeg; split <;> omega
theorem KI.last {s : kK} {N m me d st : Nat} {tp : Nat → Int32} {fr lg : Nat → Nat} (h : KI s N m) (hd : d < N) (hN : N < 1000) (hst : 1 ≤ st) : KI (kLast N s me tp fr lg d st).1.2 N (m + st) ∧ kSx s (kLast N s me tp fr lg d st).1.2 ∧ (kLast N s me tp fr lg d st).2 < N := by
  have hw := KI.walk (me := me) (tp := tp) (fr := fr) (lg := lg) h hd hN (st - 1)
  unfold kLast
  split
  · by_cases e : ¬ iDir (kWalk N s me tp fr lg d (st - 1)).1.2.1 (kWalk N s me tp fr lg d (st - 1)).2
    · rw [cif_t e]; exact ⟨hw.1.ref.le (by omega), hw.2.1.trans sx_ref, hw.2.2⟩
    · rw [cif_f e]
      have hN2 := hw.2.2
      refine ⟨?_, hw.2.1.trans ?_, hw.2.2⟩
      · show KI (kAccE _ _ _ _ _ _ _ _ _).2 N (m + st)
        unfold kAccE
        exact (hw.1.access (hoaN (g := 2) (by omega) kOf2)).le (by omega)
      · show kSx _ (kAccE _ _ _ _ _ _ _ _ _).2
        unfold kAccE; exact sx_access
  · exact ⟨hw.1.le (by omega), hw.2.1, hw.2.2⟩
theorem kLn_s {f N : Nat} (h : f < N) (hN : N < 1000) : kLn (nI f + 1) N := by
  have e : nI f + 1 = nI (f + 1) := nI_1 f
  rw [e]; exact kLn.of (by omega) (by omega)
theorem kWf.mk {A : xI} {N : Nat} {fr lg : Nat → Nat} {k d s f : Nat} {kd : Int32} (h : kWf A N) (hd : d < N) (hf : f < N) (hN : N < 1000) : kWf (kMk A fr lg k d s f kd) N := by
  unfold kMk pPut iName xfil
  exact (((((((h.u rfl).u rfl).ul rfl (kLn.of (by omega) (by omega))).u rfl).ur (fun _ => rfl)).ul rfl (kLn_s hf hN))).u rfl
theorem kNum.mk {A : xI} {N : Nat} {fr lg : Nat → Nat} {k d s f : Nat} {kd : Int32} (h : kNum A N) : kNum (kMk A fr lg k d s f kd) N := by
  have e : ∀ i, kMk A fr lg k d s f kd 6 i 0 = A 6 i 0 := fun i => by
    unfold kMk pPut iName; rw [xu_c (by decide), xu_c (by decide), xfil_c (by decide), xu_k (by decide), xu_k (by decide), xu_k (by decide), xu_k (by decide)]
  have e9 : ∀ i, kMk A fr lg k d s f kd 9 i 0 = A 9 i 0 := fun i => by
    unfold kMk pPut iName; rw [xu_c (by decide), xu_c (by decide), xfil_c (by decide), xu_c (by decide), xu_c (by decide), xu_c (by decide), xu_c (by decide)]
  exact ⟨fun i hi => by rw [e]; exact h.1 i hi, fun p hp => by rw [e9]; exact h.2 p hp⟩
theorem KI.make {s : kK} {N m me k d : Nat} {tp : Nat → Int32} {fr lg : Nat → Nat} {kd : Int32} (h : KI s N m) (hd : d < N) (hN : N < 1000) : KI (kMake N s me tp fr lg k d kd).1.2 N (m + 1) ∧ kCx s.2.1 (kMake N s me tp fr lg k d kd).1.2.2.1 ∧ ((kMake N s me tp fr lg k d kd).1.1 = 0 → (kMake N s me tp fr lg k d kd).2 < N) := by
  have ht := KI.take (me := me) (tp := tp) (fr := fr) (lg := lg) (k := k) (d := d) h (by omega)
  unfold kMake
  split
  · split
    · exact ⟨ht.1.ref, ht.2.2, fun h => absurd (show (-6 : Int32) = 0 from h) (by decide)⟩
    · next f hf =>
      split
      · exact ⟨ht.1.ref, ht.2.2, fun h => absurd (show (-6 : Int32) = 0 from h) (by decide)⟩
      · have hfN := (fst0_spec N 0 f hf).2.1
        exact ⟨⟨ht.1.wf.mk hd (by omega) hN, ht.1.rf, ht.1.ok, ht.1.nm.mk, ht.1.ln⟩, ht.2.2, fun _ => by show f < N; omega⟩
  · next e => exact ⟨ht.1, ht.2.2, fun h => absurd h e⟩
/-- an entry is no more -/
def kDrp (I : xI) (d q : Nat) : xI := xu (xu I 41 d q (-1 + 1)) 42 d q (I 0 0 21)
theorem kI_kDrp {A t : xI} {d q : Nat} : kDrp (kI A t) d q = kI (kDrp A d q) t := by unfold kDrp; rw [kI_xu (c := 41) rfl, kI_xu (c := 42) rfl]; rfl
theorem kI_kDropD {A t : xI} {i : Nat} : kDropD (kI A t) i = kI (kDropD A i) t := by
  unfold kDropD; rw [kI_xu (c := 6) rfl, kI_ite, kI_xu (c := 6) rfl, kI_xu (c := 6) rfl]; rfl
theorem kI_kSetLen {A t : xI} {i m : Nat} : kSetLen (kI A t) i m = kI (kSetLen A i m) t := by unfold kSetLen; rw [kI_xfil (c := 36) rfl, kI_xu (c := 6) rfl]; rfl
theorem kI_kNewI {A t : xI} {o : Nat} : kNewI (kI A t) o = kI (kNewI A o) t := by unfold kNewI; (repeat rw [kI_xu (c := 7) rfl])
theorem kR_kNewR {C u : xR} {me d o : Nat} : kNewR (kR C u) me d o = kR (kNewR C me d o) u := by unfold kNewR; rw [kR_xu (c := 7) rfl, kR_xu (c := 46) rfl]
noncomputable def kDoMake (N : Nat) (s : kK) (me : Nat) (tp : Nat → Int32) (fr lg : Nat → Nat) (st : Nat) : kQ :=
  kB (kLst N s me 0 tp fr lg st) fun s d => match iEntry s.1 d tp (fr (st - 1)) (lg (st - 1)) with
    | some _ => kRf s (-3)
    | none => kB (kMake N s me tp fr lg (st - 1) d 2) fun s _ => kRt s 0
theorem dX1_doMake_0 : decode cX1_doMake 0 = .ok (.aload_n 0, 1) := by decide +kernel
theorem dX1_doMake_1 : decode cX1_doMake 1 = .ok (.getfield 76, 3) := by decide +kernel
theorem dX1_doMake_4 : decode cX1_doMake 4 = .ok (.invokevirtual 616, 3) := by decide +kernel
theorem dX1_doMake_7 : decode cX1_doMake 7 = .ok (.astore_n 1, 1) := by decide +kernel
theorem dX1_doMake_8 : decode cX1_doMake 8 = .ok (.aload_n 0, 1) := by decide +kernel
theorem dX1_doMake_9 : decode cX1_doMake 9 = .ok (.getfield 76, 3) := by decide +kernel
theorem dX1_doMake_12 : decode cX1_doMake 12 = .ok (.aload_n 1, 1) := by decide +kernel
theorem dX1_doMake_13 : decode cX1_doMake 13 = .ok (.invokevirtual 619, 3) := by decide +kernel
theorem dX1_doMake_16 : decode cX1_doMake 16 = .ok (.ifnull 13, 3) := by decide +kernel
theorem dX1_doMake_19 : decode cX1_doMake 19 = .ok (.aload_n 0, 1) := by decide +kernel
theorem dX1_doMake_20 : decode cX1_doMake 20 = .ok (.getfield 53, 3) := by decide +kernel
theorem dX1_doMake_23 : decode cX1_doMake 23 = .ok (.bipush (-3), 2) := by decide +kernel
theorem dX1_doMake_25 : decode cX1_doMake 25 = .ok (.invokevirtual 364, 3) := by decide +kernel
theorem dX1_doMake_28 : decode cX1_doMake 28 = .ok (.athrow, 1) := by decide +kernel
theorem dX1_doMake_29 : decode cX1_doMake 29 = .ok (.aload_n 0, 1) := by decide +kernel
theorem dX1_doMake_30 : decode cX1_doMake 30 = .ok (.getfield 76, 3) := by decide +kernel
theorem dX1_doMake_33 : decode cX1_doMake 33 = .ok (.aload_n 1, 1) := by decide +kernel
theorem dX1_doMake_34 : decode cX1_doMake 34 = .ok (.iconst 2, 1) := by decide +kernel
theorem dX1_doMake_35 : decode cX1_doMake 35 = .ok (.invokevirtual 623, 3) := by decide +kernel
theorem dX1_doMake_38 : decode cX1_doMake 38 = .ok (.pop, 1) := by decide +kernel
theorem dX1_doMake_39 : decode cX1_doMake 39 = .ok (.iconst 0, 1) := by decide +kernel
theorem dX1_doMake_40 : decode cX1_doMake 40 = .ok (.ireturn, 1) := by decide +kernel
set_option maxHeartbeats 4000000 in
set_option maxRecDepth 100000 in
theorem c_X1_doMake {G : xG} {n : Nat} {Q : Outcome → xS → Prop} {x : kX} {I : xI} {R : xR} {v : kV} {th : List xTh} {mm : Nat} (hT : KT x v th) (hK : KI (I, R, th) x.N mm) {st : Nat} {fr lg : Nat → Nat} (hp : PS I 0 st fr lg) {tp : Nat → Int32} (htp : I 27 0 = tp) (h1 : 1 ≤ st) (hmm : mm + 100 < 16384) {me : Nat} (hme : R 0 0 19 = some me) (hme16 : me < 16) (hn : 14 ≤ n) (hq : kOs Q x (kDoMake x.N (I, R, th) me tp fr lg st)) : xCall G mX1_doMake n [.ref (x.ad 0 0)] (kS I R x v) Q := by
  refine x_met (L0 := [(1, .ref (x.ad 0 0)), xo]) (by decide +kernel) rfl ⟨Nat.le_of_ble_eq_true rfl, rfl⟩ ?_
  have hnb := hT.ks.nb
  unfold kDoMake at hq
  have hp12 := hp.2.1
  refine x_aload_n 1 dX1_doMake_0 rfl rfl ?_
  refine x_getz 4 dX1_doMake_1 rfl fl_X1_76 (hT.ks.l0 (by omega)) (hT.ks.z0_23 (by omega)) ?_
  try unfold kLst at hq
  obtain ⟨hw_1, hq⟩ := hq.asB
  have hwk_1 := kWk_some hw_1
  have hwN_1 := hK.rf.wk hwk_1
  obtain ⟨r_1, hd1⟩ : ∃ r : kO × Nat, r = kLast x.N (I, R, th) me tp fr lg (kBeg ((I, R, th)).1 0 (kWk (I, R, th) me)) st := ⟨_, rfl⟩
  rw [← hd1] at hq
  have hKS_1 := KI.last (me := me) (tp := tp) (fr := fr) (lg := lg) hK (d := (kBeg ((I, R, th)).1 0 (kWk (I, R, th) me))) (kBeg_lt hwN_1) (by omega) (st := st) (by omega)
  rw [← hd1] at hKS_1
  obtain ⟨hKa_1, hSa_1, hdN_1⟩ := hKS_1
  have hK_1 := hKa_1.le (m' := mm + 12) (by omega)
  have hS_1 := (kSx.rfl (s := (I, R, th))).trans hSa_1
  refine x_callV (as := []) (rest := []) (i := 0) (n' := n - 1) 7 dX1_doMake_4 rfl mv_X1_616 rfl rfl (hT.ks.l4 (by omega)) (xnh rfl) (by omega) (xst (Nat.le_of_ble_eq_true rfl)) (c_X5_last (i := 0) (fr := fr) (lg := lg) hT hK (by omega) (hp.fx (kSx.rfl (s := (I, R, th))).1) (tp_fx htp (kSx.rfl (s := (I, R, th))).1) (by omega) ((kSx.rfl (s := (I, R, th))).2 0 0 19 rfl |>.trans hme) hme16 hwk_1 hwN_1 (by omega) (by omega) (kOutP hd1 ⟨?_, ?_⟩))
  · skip
    intro hz1 w1 hU1
    change X _ _ _ _ _ _ _ _ _ _
    rw [kB_ok hz1] at hq
    refine x_astore_n 8 [(1, .ref (x.ad 0 0)), (1, .ref (x.ad 6 r_1.2))] dX1_doMake_7 rfl (by decide) rfl ?_
    refine x_aload_n 9 dX1_doMake_8 rfl rfl ?_
    refine x_getz 12 dX1_doMake_9 rfl fl_X1_76 (hU1.ks.l0 (by omega)) (hU1.ks.z0_23 (by omega)) ?_
    refine x_aload_n 13 dX1_doMake_12 rfl rfl ?_
    refine x_callV (as := [.ref (x.ad 6 r_1.2)]) (rest := []) (i := 0) (n' := n - 1) 16 dX1_doMake_13 rfl mv_X1_619 rfl rfl (hU1.ks.l4 (by omega)) (xnh rfl) (by omega) (xst (Nat.le_of_ble_eq_true rfl)) (c_X5_lastEntry (I := kI r_1.1.2.1 w1.t) (i := 0) (fr := fr) (lg := lg) (d := r_1.2) hU1.ks (by omega) (show PS r_1.1.2.1 0 st fr lg from (hp.fx (hS_1).1)) (by omega) (by omega) (fun d_ s_ _ _ => hK_1.wf.now d_ s_) (by omega) ?_)
    change X _ _ _ _ _ _ _ _ _ _
    refine x_vr (w := iEntry r_1.1.2.1 r_1.2 tp (fr (st - 1)) (lg (st - 1))) (by rw [← (tp_fx htp (hS_1).1)]; rfl) ?_
    refine x_ifnull 29 19 dX1_doMake_16 (by decide) rfl (fun c16 => ?_) (fun j1 c16 => ?_)
    · skip
      rw [c16] at hq
      dsimp only at hq
      refine x_aload_n 30 dX1_doMake_29 rfl rfl ?_
      refine x_getz 33 dX1_doMake_30 rfl fl_X1_76 (hU1.ks.l0 (by omega)) (hU1.ks.z0_23 (by omega)) ?_
      refine x_aload_n 34 dX1_doMake_33 rfl rfl ?_
      refine x_iconst (v := 2) 35 dX1_doMake_34 rfl rfl ?_
      obtain ⟨r_2, hd2⟩ : ∃ r : kO × Nat, r = kMake x.N r_1.1.2 me tp fr lg (st - 1) r_1.2 2 := ⟨_, rfl⟩
      rw [← hd2] at hq
      have hKS_2 := KI.make (me := me) (tp := tp) (fr := fr) (lg := lg) (k := st - 1) (kd := 2) hK_1 (d := r_1.2) (by omega) (by omega)
      rw [← hd2] at hKS_2
      obtain ⟨hK_2, hC_2, hdN_2⟩ := hKS_2
      refine x_callV (as := [.ref (x.ad 6 r_1.2), .int 2]) (rest := []) (i := 0) (n' := n - 1) 38 dX1_doMake_35 rfl mv_X1_623 rfl rfl (hU1.ks.l4 (by omega)) (xnh rfl) (by omega) (xst (Nat.le_of_ble_eq_true rfl)) (c_X5_make (i := 0) (fr := fr) (lg := lg) (d := r_1.2) hU1 hK_1 (by omega) (hp.fx (hS_1).1) (tp_fx htp (hS_1).1) (by omega) (by omega) (by omega) ((hS_1).2 0 0 19 rfl |>.trans hme) hme16 (by omega) (kOutP hd2 ⟨?_, ?_⟩))
      · skip
        intro hz2 w2 hU2
        change X _ _ _ _ _ _ _ _ _ _
        rw [kB_ok hz2] at hq
        have hdN_2 := hdN_2 hz2
        refine x_pop 39 dX1_doMake_38 rfl rfl ?_
        refine x_iconst (v := 0) 40 dX1_doMake_39 rfl rfl ?_
        refine x_ireturn dX1_doMake_40 rfl ?_
        exact hq.ret hU2
      · skip
        intro hz2 w2 hU2
        rw [kB_no hz2] at hq
        exact hq.no hz2 hU2
    · skip
      rw [c16] at hq
      dsimp only at hq
      refine x_aload_n 20 dX1_doMake_19 rfl rfl ?_
      refine x_getz 23 dX1_doMake_20 rfl fl_X1_53 (hU1.ks.l0 (by omega)) (hU1.ks.z0_10 (by omega)) ?_
      refine x_bipush (v := -3) 25 dX1_doMake_23 rfl rfl ?_
      refine x_callV (as := [.int (-3)]) (rest := []) (i := 0) (n' := n - 1) 28 dX1_doMake_25 rfl mv_X1_364 rfl rfl (hU1.ks.l3 (by omega)) (xnh rfl) (by omega) (xst (Nat.le_of_ble_eq_true rfl)) (c_X4_by hU1.ks (by omega) ?_)
      change X _ _ _ _ _ _ _ _ _ _
      refine k_nmA (v := w1) (A1 := (xu r_1.1.2.1 3 0 0 ((-3)))) (by (repeat (first | rw [kI_xu] | rw [kI_xur] | rw [kI_xfil])) <;> rfl) fun I1 hI1 => ?_
      refine x_athrow dX1_doMake_28 (xnh rfl) ?_
      rw [hI1]
      exact hq.thr (by decide) hU1
  · skip
    intro hz1 w1 hU1
    rw [kB_no hz1] at hq
    exact hq.no hz1 hU1
/-- the slot of a path's last name -/
noncomputable def kSlt (s : kK) (d : Nat) (tp : Nat → Int32) (fr lg : Nat → Nat) (st : Nat) : Int32 := iSlot s.1 d tp (fr (st - 1)) (lg (st - 1))
noncomputable def kDoUnl (N : Nat) (s : kK) (me : Nat) (tp : Nat → Int32) (fr lg : Nat → Nat) (st : Nat) : kQ :=
  kB (kLst N s me 0 tp fr lg st) fun s d => match iEntry s.1 d tp (fr (st - 1)) (lg (st - 1)) with
    | none => kRf s (-2)
    | some f => cif (iDir s.1 f) (kRf s (-4)) (kU (kAccE N s me tp fr lg (st - 1) d 1) fun s => kU (kAccess N s me 1 (nI f) 0 0 1) fun s =>
      kAs (¬ kSlt s d tp fr lg st = -1) s (kRt (xu (kDrp s.1 d (iN (kSlt s d tp fr lg st))) 6 f 2 (kDrp s.1 d (iN (kSlt s d tp fr lg st)) 6 f 2 - 1), s.2.1, s.2.2) 0))
theorem iEntry_N {I : xI} {N d j f l : Nat} {tp : Nat → Int32} {r : Option Nat} (h : kWf I N) (hd : d < N) (hN : N < 1000) (hr : r = iEntry I d tp f l) (c : r = some j) : j < N := iEntry_lt (fun d_ s_ _ _ => h.now d_ s_) hd hN (hr.symm.trans c)
theorem kSlt_n {s : kK} {d st : Nat} {tp : Nat → Int32} {fr lg : Nat → Nat} (h : ¬ kSlt s d tp fr lg st = -1) : iN (kSlt s d tp fr lg st) < 512 ∧ kSlt s d tp fr lg st = nI (iN (kSlt s d tp fr lg st)) := by
  unfold kSlt iSlot at h ⊢
  rcases fstI_cases (fun q => ¬ s.1 41 d q ≤ 0 ∧ nmIs s.1 d q tp (fr (st - 1)) (lg (st - 1))) 512 with ⟨h1, _⟩ | ⟨q, h1, _, h3, _⟩
  · exact absurd h1 h
  · rw [h3, iN_nI (by omega)]; exact ⟨h1, rfl⟩
theorem dX1_doUnlink_0 : decode cX1_doUnlink 0 = .ok (.aload_n 0, 1) := by decide +kernel
theorem dX1_doUnlink_1 : decode cX1_doUnlink 1 = .ok (.getfield 76, 3) := by decide +kernel
theorem dX1_doUnlink_4 : decode cX1_doUnlink 4 = .ok (.invokevirtual 616, 3) := by decide +kernel
theorem dX1_doUnlink_7 : decode cX1_doUnlink 7 = .ok (.astore_n 1, 1) := by decide +kernel
theorem dX1_doUnlink_8 : decode cX1_doUnlink 8 = .ok (.aload_n 0, 1) := by decide +kernel
theorem dX1_doUnlink_9 : decode cX1_doUnlink 9 = .ok (.getfield 76, 3) := by decide +kernel
theorem dX1_doUnlink_12 : decode cX1_doUnlink 12 = .ok (.aload_n 1, 1) := by decide +kernel
theorem dX1_doUnlink_13 : decode cX1_doUnlink 13 = .ok (.invokevirtual 619, 3) := by decide +kernel
theorem dX1_doUnlink_16 : decode cX1_doUnlink 16 = .ok (.astore_n 2, 1) := by decide +kernel
theorem dX1_doUnlink_17 : decode cX1_doUnlink 17 = .ok (.aload_n 2, 1) := by decide +kernel
theorem dX1_doUnlink_18 : decode cX1_doUnlink 18 = .ok (.ifnonnull 13, 3) := by decide +kernel
theorem dX1_doUnlink_21 : decode cX1_doUnlink 21 = .ok (.aload_n 0, 1) := by decide +kernel
theorem dX1_doUnlink_22 : decode cX1_doUnlink 22 = .ok (.getfield 53, 3) := by decide +kernel
theorem dX1_doUnlink_25 : decode cX1_doUnlink 25 = .ok (.bipush (-2), 2) := by decide +kernel
theorem dX1_doUnlink_27 : decode cX1_doUnlink 27 = .ok (.invokevirtual 364, 3) := by decide +kernel
theorem dX1_doUnlink_30 : decode cX1_doUnlink 30 = .ok (.athrow, 1) := by decide +kernel
theorem dX1_doUnlink_31 : decode cX1_doUnlink 31 = .ok (.aload_n 2, 1) := by decide +kernel
theorem dX1_doUnlink_32 : decode cX1_doUnlink 32 = .ok (.invokevirtual 403, 3) := by decide +kernel
theorem dX1_doUnlink_35 : decode cX1_doUnlink 35 = .ok (.ifCond .eq 13, 3) := by decide +kernel
theorem dX1_doUnlink_38 : decode cX1_doUnlink 38 = .ok (.aload_n 0, 1) := by decide +kernel
theorem dX1_doUnlink_39 : decode cX1_doUnlink 39 = .ok (.getfield 53, 3) := by decide +kernel
theorem dX1_doUnlink_42 : decode cX1_doUnlink 42 = .ok (.bipush (-4), 2) := by decide +kernel
theorem dX1_doUnlink_44 : decode cX1_doUnlink 44 = .ok (.invokevirtual 364, 3) := by decide +kernel
theorem dX1_doUnlink_47 : decode cX1_doUnlink 47 = .ok (.athrow, 1) := by decide +kernel
theorem dX1_doUnlink_48 : decode cX1_doUnlink 48 = .ok (.aload_n 0, 1) := by decide +kernel
theorem dX1_doUnlink_49 : decode cX1_doUnlink 49 = .ok (.getfield 76, 3) := by decide +kernel
theorem dX1_doUnlink_52 : decode cX1_doUnlink 52 = .ok (.aload_n 0, 1) := by decide +kernel
theorem dX1_doUnlink_53 : decode cX1_doUnlink 53 = .ok (.getfield 76, 3) := by decide +kernel
theorem dX1_doUnlink_56 : decode cX1_doUnlink 56 = .ok (.getfield 658, 3) := by decide +kernel
theorem dX1_doUnlink_59 : decode cX1_doUnlink 59 = .ok (.iconst 1, 1) := by decide +kernel
theorem dX1_doUnlink_60 : decode cX1_doUnlink 60 = .ok (.isub, 1) := by decide +kernel
theorem dX1_doUnlink_61 : decode cX1_doUnlink 61 = .ok (.aload_n 1, 1) := by decide +kernel
theorem dX1_doUnlink_62 : decode cX1_doUnlink 62 = .ok (.iconst 1, 1) := by decide +kernel
theorem dX1_doUnlink_63 : decode cX1_doUnlink 63 = .ok (.invokevirtual 661, 3) := by decide +kernel
theorem dX1_doUnlink_66 : decode cX1_doUnlink 66 = .ok (.aload_n 0, 1) := by decide +kernel
theorem dX1_doUnlink_67 : decode cX1_doUnlink 67 = .ok (.iconst 1, 1) := by decide +kernel
theorem dX1_doUnlink_68 : decode cX1_doUnlink 68 = .ok (.aload_n 2, 1) := by decide +kernel
theorem dX1_doUnlink_69 : decode cX1_doUnlink 69 = .ok (.getfield 448, 3) := by decide +kernel
theorem dX1_doUnlink_72 : decode cX1_doUnlink 72 = .ok (.invokevirtual 588, 3) := by decide +kernel
theorem dX1_doUnlink_75 : decode cX1_doUnlink 75 = .ok (.aload_n 0, 1) := by decide +kernel
theorem dX1_doUnlink_76 : decode cX1_doUnlink 76 = .ok (.aload_n 0, 1) := by decide +kernel
theorem dX1_doUnlink_77 : decode cX1_doUnlink 77 = .ok (.getfield 76, 3) := by decide +kernel
theorem dX1_doUnlink_80 : decode cX1_doUnlink 80 = .ok (.aload_n 1, 1) := by decide +kernel
theorem dX1_doUnlink_81 : decode cX1_doUnlink 81 = .ok (.invokevirtual 664, 3) := by decide +kernel
theorem dX1_doUnlink_84 : decode cX1_doUnlink 84 = .ok (.aload_n 0, 1) := by decide +kernel
theorem dX1_doUnlink_85 : decode cX1_doUnlink 85 = .ok (.aload_n 2, 1) := by decide +kernel
theorem dX1_doUnlink_86 : decode cX1_doUnlink 86 = .ok (.invokevirtual 667, 3) := by decide +kernel
theorem dX1_doUnlink_89 : decode cX1_doUnlink 89 = .ok (.iconst 0, 1) := by decide +kernel
theorem dX1_doUnlink_90 : decode cX1_doUnlink 90 = .ok (.ireturn, 1) := by decide +kernel
set_option maxHeartbeats 4000000 in
set_option maxRecDepth 100000 in
theorem c_X1_doUnlink {G : xG} {n : Nat} {Q : Outcome → xS → Prop} {x : kX} {I : xI} {R : xR} {v : kV} {th : List xTh} {mm : Nat} (hT : KT x v th) (hK : KI (I, R, th) x.N mm) {st : Nat} {fr lg : Nat → Nat} (hp : PS I 0 st fr lg) {tp : Nat → Int32} (htp : I 27 0 = tp) (h1 : 1 ≤ st) (hmm : mm + 100 < 16384) {me : Nat} (hme : R 0 0 19 = some me) (hme16 : me < 16) (hn : 14 ≤ n) (hq : kOs Q x (kDoUnl x.N (I, R, th) me tp fr lg st)) : xCall G mX1_doUnlink n [.ref (x.ad 0 0)] (kS I R x v) Q := by
  refine x_met (L0 := [(1, .ref (x.ad 0 0)), xo, xo]) (by decide +kernel) rfl ⟨Nat.le_of_ble_eq_true rfl, rfl⟩ ?_
  have hnb := hT.ks.nb
  unfold kDoUnl at hq
  have hp12 := hp.2.1
  refine x_aload_n 1 dX1_doUnlink_0 rfl rfl ?_
  refine x_getz 4 dX1_doUnlink_1 rfl fl_X1_76 (hT.ks.l0 (by omega)) (hT.ks.z0_23 (by omega)) ?_
  try unfold kLst at hq
  obtain ⟨hw_1, hq⟩ := hq.asB
  have hwk_1 := kWk_some hw_1
  have hwN_1 := hK.rf.wk hwk_1
  obtain ⟨r_1, hd1⟩ : ∃ r : kO × Nat, r = kLast x.N (I, R, th) me tp fr lg (kBeg ((I, R, th)).1 0 (kWk (I, R, th) me)) st := ⟨_, rfl⟩
  rw [← hd1] at hq
  have hKS_1 := KI.last (me := me) (tp := tp) (fr := fr) (lg := lg) hK (d := (kBeg ((I, R, th)).1 0 (kWk (I, R, th) me))) (kBeg_lt hwN_1) (by omega) (st := st) (by omega)
  rw [← hd1] at hKS_1
  obtain ⟨hKa_1, hSa_1, hdN_1⟩ := hKS_1
  have hK_1 := hKa_1.le (m' := mm + 12) (by omega)
  have hS_1 := (kSx.rfl (s := (I, R, th))).trans hSa_1
  refine x_callV (as := []) (rest := []) (i := 0) (n' := n - 1) 7 dX1_doUnlink_4 rfl mv_X1_616 rfl rfl (hT.ks.l4 (by omega)) (xnh rfl) (by omega) (xst (Nat.le_of_ble_eq_true rfl)) (c_X5_last (i := 0) (fr := fr) (lg := lg) hT hK (by omega) (hp.fx (kSx.rfl (s := (I, R, th))).1) (tp_fx htp (kSx.rfl (s := (I, R, th))).1) (by omega) ((kSx.rfl (s := (I, R, th))).2 0 0 19 rfl |>.trans hme) hme16 hwk_1 hwN_1 (by omega) (by omega) (kOutP hd1 ⟨?_, ?_⟩))
  · skip
    intro hz1 w1 hU1
    change X _ _ _ _ _ _ _ _ _ _
    rw [kB_ok hz1] at hq
    refine x_astore_n 8 [(1, .ref (x.ad 0 0)), (1, .ref (x.ad 6 r_1.2)), xo] dX1_doUnlink_7 rfl (by decide) rfl ?_
    refine x_aload_n 9 dX1_doUnlink_8 rfl rfl ?_
    refine x_getz 12 dX1_doUnlink_9 rfl fl_X1_76 (hU1.ks.l0 (by omega)) (hU1.ks.z0_23 (by omega)) ?_
    refine x_aload_n 13 dX1_doUnlink_12 rfl rfl ?_
    refine x_callV (as := [.ref (x.ad 6 r_1.2)]) (rest := []) (i := 0) (n' := n - 1) 16 dX1_doUnlink_13 rfl mv_X1_619 rfl rfl (hU1.ks.l4 (by omega)) (xnh rfl) (by omega) (xst (Nat.le_of_ble_eq_true rfl)) (c_X5_lastEntry (I := kI r_1.1.2.1 w1.t) (i := 0) (fr := fr) (lg := lg) (d := r_1.2) hU1.ks (by omega) (show PS r_1.1.2.1 0 st fr lg from (hp.fx (hS_1).1)) (by omega) (by omega) (fun d_ s_ _ _ => hK_1.wf.now d_ s_) (by omega) ?_)
    change X _ _ _ _ _ _ _ _ _ _
    refine x_vr (w := iEntry r_1.1.2.1 r_1.2 tp (fr (st - 1)) (lg (st - 1))) (by rw [← (tp_fx htp (hS_1).1)]; rfl) ?_
    refine x_nmr fun r1 hr1 => ?_
    refine x_astore_nr 17 [(1, .ref (x.ad 0 0)), (1, .ref (x.ad 6 r_1.2)), (1, va_re (x.ad 6) r1)] dX1_doUnlink_16 rfl (by decide) rfl ?_
    refine x_aload_nr 18 dX1_doUnlink_17 rfl rfl ?_
    refine x_ifnonnull 31 21 dX1_doUnlink_18 (by decide) rfl (fun j1 c18 => ?_) (fun c18 => ?_)
    · skip
      rw [← hr1, c18] at hq
      dsimp only at hq
      have hjN := iEntry_N hK_1.wf (by omega) (by omega) hr1 c18
      refine x_aload_nr 32 dX1_doUnlink_31 rfl rfl ?_
      refine x_some c18 ?_
      refine x_callV (as := []) (rest := []) (i := j1) (n' := n - 1) 35 dX1_doUnlink_32 rfl mv_X1_403 rfl rfl (hU1.ks.l6 (by omega)) (xnh rfl) (by omega) (xst (Nat.le_of_ble_eq_true rfl)) (c_X7_isDirectory hU1.ks (by omega) (by omega) ?_)
      change X _ _ _ _ _ _ _ _ _ _
      refine x_vi (w := b2i (iDir r_1.1.2.1 j1)) rfl ?_
      refine x_if_eq 48 38 dX1_doUnlink_35 (by decide) rfl (fun c35 => ?_) (fun c35 => ?_)
      · skip
        have c35 : ¬ (iDir r_1.1.2.1 j1) := b2i_0.mp c35
        rw [cif_f (show ¬ iDir r_1.1.2.1 j1 from c35)] at hq
        refine x_aload_n 49 dX1_doUnlink_48 rfl rfl ?_
        refine x_getz 52 dX1_doUnlink_49 rfl fl_X1_76 (hU1.ks.l0 (by omega)) (hU1.ks.z0_23 (by omega)) ?_
        refine x_aload_n 53 dX1_doUnlink_52 rfl rfl ?_
        refine x_getz 56 dX1_doUnlink_53 rfl fl_X1_76 (hU1.ks.l0 (by omega)) (hU1.ks.z0_23 (by omega)) ?_
        refine x_geti 59 dX1_doUnlink_56 rfl fl_X1_658 (hU1.ks.l4 (by omega)) ?_
        refine x_vi (w := r_1.1.2.1 4 0 2) rfl ?_
        refine x_vi (w := nI st) ((hp.fx (hS_1).1)).1 ?_
        refine x_iconst (v := 1) 60 dX1_doUnlink_59 rfl rfl ?_
        refine x_isubn st 1 61 dX1_doUnlink_60 rfl rfl rfl (by omega) ?_
        refine x_aload_n 62 dX1_doUnlink_61 rfl rfl ?_
        refine x_iconst (v := 1) 63 dX1_doUnlink_62 rfl rfl ?_
        obtain ⟨r_2, hd2⟩ : ∃ r : kO, r = kAccE x.N r_1.1.2 me tp fr lg (st - 1) r_1.2 1 := ⟨_, rfl⟩
        rw [← hd2] at hq
        have hK_2 : KI r_2.2 x.N ((mm + 12) + 1) := by rw [hd2]; unfold kAccE; exact hK_1.access (hoaN (g := 2) (by omega) kOf2)
        have hS_2 : kSx (I, R, th) r_2.2 := (hS_1).trans (by rw [hd2]; unfold kAccE; exact sx_access)
        refine x_callV (as := [.int (nI (st - 1)), .ref (x.ad 6 r_1.2), .int 1]) (rest := []) (i := 0) (n' := n - 1) 66 dX1_doUnlink_63 rfl mv_X1_661 rfl rfl (hU1.ks.l4 (by omega)) (xnh rfl) (by omega) (xst (Nat.le_of_ble_eq_true rfl)) (c_X5_access (w := 1) (i := 0) (fr := fr) (lg := lg) (k := st - 1) hU1 hK_1 (by omega) (hp.fx (hS_1).1) (tp_fx htp (hS_1).1) (by omega) (by omega) (by omega) ((hS_1).2 0 0 19 rfl |>.trans hme) hme16 (by omega) (kOutN hd2 ⟨?_, ?_⟩))
        · skip
          intro hz2 w2 hU2
          change X _ _ _ _ _ _ _ _ _ _
          rw [kU_ok hz2] at hq
          refine x_aload_n 67 dX1_doUnlink_66 rfl rfl ?_
          refine x_iconst (v := 1) 68 dX1_doUnlink_67 rfl rfl ?_
          refine x_aload_nr 69 dX1_doUnlink_68 rfl rfl ?_
          refine x_some c18 ?_
          refine x_geti 72 dX1_doUnlink_69 rfl fl_X1_448 (hU2.ks.l6 (by omega)) ?_
          refine x_vi (w := r_2.2.1 6 j1 0) rfl ?_
          refine x_vi (w := nI j1) (hK_2.nm.1 j1 (by omega)) ?_
          obtain ⟨r_3, hd3⟩ : ∃ r : kO, r = kAccess x.N r_2.2 me 1 (nI j1) 0 0 1 := ⟨_, rfl⟩
          rw [← hd3] at hq
          have hK_3 : KI r_3.2 x.N ((mm + 13) + 1) := by rw [hd3]; exact hK_2.access (hoaN (g := 1) (by omega) (kOf1 (by omega)))
          have hS_3 : kSx (I, R, th) r_3.2 := (hS_2).trans (by rw [hd3]; exact sx_access)
          refine x_callV (as := [.int 1, .int (nI j1)]) (rest := []) (i := 0) (n' := n - 1) 75 dX1_doUnlink_72 rfl mv_X1_588 rfl rfl (hU2.ks.l0 (by omega)) (xnh rfl) (by omega) (xst (Nat.le_of_ble_eq_true rfl)) (c_X1_writes (g := 1) (oa := nI j1) hU2 hK_2 (hoaN (g := 1) (by omega) (kOf1 (by omega))) (by omega) ((hS_2).2 0 0 19 rfl |>.trans hme) hme16 (by omega) (kOutN hd3 ⟨?_, ?_⟩))
          · skip
            intro hz3 w3 hU3
            change X _ _ _ _ _ _ _ _ _ _
            rw [kU_ok hz3] at hq
            refine x_aload_n 76 dX1_doUnlink_75 rfl rfl ?_
            refine x_aload_n 77 dX1_doUnlink_76 rfl rfl ?_
            refine x_getz 80 dX1_doUnlink_77 rfl fl_X1_76 (hU3.ks.l0 (by omega)) (hU3.ks.z0_23 (by omega)) ?_
            refine x_aload_n 81 dX1_doUnlink_80 rfl rfl ?_
            obtain ⟨hsl_, hq⟩ := hq.as
            have hsl2 := kSlt_n hsl_
            refine x_callV (as := [.ref (x.ad 4 0), .ref (x.ad 6 r_1.2)]) (rest := []) (i := 0) (n' := n - 1) 84 dX1_doUnlink_81 rfl mv_X1_664 rfl rfl (hU3.ks.l0 (by omega)) (xnh rfl) (by omega) (xst (Nat.le_of_ble_eq_true rfl)) (c_X1_drop (I := kI r_3.2.1 w3.t) (i := 0) (fr := fr) (lg := lg) (d := r_1.2) (s := (iN (kSlt r_3.2 r_1.2 tp fr lg st))) hU3.ks (by omega) (show PS r_3.2.1 0 st fr lg from (hp.fx (hS_3).1)) (by omega) (by omega) hsl2.1 (by rw [show kI r_3.2.1 w3.t 27 0 = tp from (show r_3.2.1 27 0 = tp from (tp_fx htp (hS_3).1))]; exact hsl2.2) (by omega) ?_)
            change X _ _ _ _ _ _ _ _ _ _
            refine k_nmA (v := w3) (A1 := (kDrp r_3.2.1 r_1.2 (iN (kSlt r_3.2 r_1.2 tp fr lg st)))) kI_kDrp fun I1 hI1 => ?_
            refine x_aload_n 85 dX1_doUnlink_84 rfl rfl ?_
            refine x_aload_nr 86 dX1_doUnlink_85 rfl rfl ?_
            refine x_some c18 ?_
            refine x_callV (as := [.ref (x.ad 6 j1)]) (rest := []) (i := 0) (n' := n - 1) 89 dX1_doUnlink_86 rfl mv_X1_667 rfl rfl (hU3.ks.l0 (by omega)) (xnh rfl) (by omega) (xst (Nat.le_of_ble_eq_true rfl)) (c_X1_dropName hU3.ks (by omega) (by omega) ?_)
            change X _ _ _ _ _ _ _ _ _ _
            refine k_nmA (v := w3) (A1 := (xu I1 6 j1 2 (I1 6 j1 2 - 1))) (by (repeat (first | rw [kI_xu] | rw [kI_xur] | rw [kI_xfil])) <;> rfl) fun I2 hI2 => ?_
            refine x_iconst (v := 0) 90 dX1_doUnlink_89 rfl rfl ?_
            refine x_ireturn dX1_doUnlink_90 rfl ?_
            rw [hI2, hI1]
            exact hq.ret hU3
          · skip
            intro hz3 w3 hU3
            rw [kU_no hz3] at hq
            exact hq.no hz3 hU3
        · skip
          intro hz2 w2 hU2
          rw [kU_no hz2] at hq
          exact hq.no hz2 hU2
      · skip
        have c35 : iDir r_1.1.2.1 j1 := b2i_n0.mp c35
        rw [cif_t (show iDir r_1.1.2.1 j1 from c35)] at hq
        refine x_aload_n 39 dX1_doUnlink_38 rfl rfl ?_
        refine x_getz 42 dX1_doUnlink_39 rfl fl_X1_53 (hU1.ks.l0 (by omega)) (hU1.ks.z0_10 (by omega)) ?_
        refine x_bipush (v := -4) 44 dX1_doUnlink_42 rfl rfl ?_
        refine x_callV (as := [.int (-4)]) (rest := []) (i := 0) (n' := n - 1) 47 dX1_doUnlink_44 rfl mv_X1_364 rfl rfl (hU1.ks.l3 (by omega)) (xnh rfl) (by omega) (xst (Nat.le_of_ble_eq_true rfl)) (c_X4_by hU1.ks (by omega) ?_)
        change X _ _ _ _ _ _ _ _ _ _
        refine k_nmA (v := w1) (A1 := (xu r_1.1.2.1 3 0 0 ((-4)))) (by (repeat (first | rw [kI_xu] | rw [kI_xur] | rw [kI_xfil])) <;> rfl) fun I1 hI1 => ?_
        refine x_athrow dX1_doUnlink_47 (xnh rfl) ?_
        rw [hI1]
        exact hq.thr (by decide) hU1
    · skip
      rw [← hr1, c18] at hq
      dsimp only at hq
      refine x_aload_n 22 dX1_doUnlink_21 rfl rfl ?_
      refine x_getz 25 dX1_doUnlink_22 rfl fl_X1_53 (hU1.ks.l0 (by omega)) (hU1.ks.z0_10 (by omega)) ?_
      refine x_bipush (v := -2) 27 dX1_doUnlink_25 rfl rfl ?_
      refine x_callV (as := [.int (-2)]) (rest := []) (i := 0) (n' := n - 1) 30 dX1_doUnlink_27 rfl mv_X1_364 rfl rfl (hU1.ks.l3 (by omega)) (xnh rfl) (by omega) (xst (Nat.le_of_ble_eq_true rfl)) (c_X4_by hU1.ks (by omega) ?_)
      change X _ _ _ _ _ _ _ _ _ _
      refine k_nmA (v := w1) (A1 := (xu r_1.1.2.1 3 0 0 ((-2)))) (by (repeat (first | rw [kI_xu] | rw [kI_xur] | rw [kI_xfil])) <;> rfl) fun I1 hI1 => ?_
      refine x_athrow dX1_doUnlink_30 (xnh rfl) ?_
      rw [hI1]
      exact hq.thr (by decide) hU1
  · skip
    intro hz1 w1 hU1
    rw [kB_no hz1] at hq
    exact hq.no hz1 hU1
noncomputable def kDoRem (N : Nat) (s : kK) (me : Nat) (tp : Nat → Int32) (fr lg : Nat → Nat) (st : Nat) : kQ :=
  kB (kLst N s me 0 tp fr lg st) fun s d => match iEntry s.1 d tp (fr (st - 1)) (lg (st - 1)) with
    | none => kRf s (-2)
    | some f => cif (iDir s.1 f) (kU (kAccess N s me 3 (nI f) 0 0 0) fun s => if 0 < iEntries s.1 f then kRf s (-12) else
      kU (kAccE N s me tp fr lg (st - 1) d 1) fun s => kU (kAccess N s me 4 (nI f) 0 0 1) fun s =>
      kAs (¬ kSlt s d tp fr lg st = -1) s (kRt (kDropD (kDrp s.1 d (iN (kSlt s d tp fr lg st))) f, s.2.1, s.2.2) 0)) (kRf s (-4))
theorem dX1_doRemove_0 : decode cX1_doRemove 0 = .ok (.aload_n 0, 1) := by decide +kernel
theorem dX1_doRemove_1 : decode cX1_doRemove 1 = .ok (.getfield 76, 3) := by decide +kernel
theorem dX1_doRemove_4 : decode cX1_doRemove 4 = .ok (.invokevirtual 616, 3) := by decide +kernel
theorem dX1_doRemove_7 : decode cX1_doRemove 7 = .ok (.astore_n 1, 1) := by decide +kernel
theorem dX1_doRemove_8 : decode cX1_doRemove 8 = .ok (.aload_n 0, 1) := by decide +kernel
theorem dX1_doRemove_9 : decode cX1_doRemove 9 = .ok (.getfield 76, 3) := by decide +kernel
theorem dX1_doRemove_12 : decode cX1_doRemove 12 = .ok (.aload_n 1, 1) := by decide +kernel
theorem dX1_doRemove_13 : decode cX1_doRemove 13 = .ok (.invokevirtual 619, 3) := by decide +kernel
theorem dX1_doRemove_16 : decode cX1_doRemove 16 = .ok (.astore_n 2, 1) := by decide +kernel
theorem dX1_doRemove_17 : decode cX1_doRemove 17 = .ok (.aload_n 2, 1) := by decide +kernel
theorem dX1_doRemove_18 : decode cX1_doRemove 18 = .ok (.ifnonnull 13, 3) := by decide +kernel
theorem dX1_doRemove_21 : decode cX1_doRemove 21 = .ok (.aload_n 0, 1) := by decide +kernel
theorem dX1_doRemove_22 : decode cX1_doRemove 22 = .ok (.getfield 53, 3) := by decide +kernel
theorem dX1_doRemove_25 : decode cX1_doRemove 25 = .ok (.bipush (-2), 2) := by decide +kernel
theorem dX1_doRemove_27 : decode cX1_doRemove 27 = .ok (.invokevirtual 364, 3) := by decide +kernel
theorem dX1_doRemove_30 : decode cX1_doRemove 30 = .ok (.athrow, 1) := by decide +kernel
theorem dX1_doRemove_31 : decode cX1_doRemove 31 = .ok (.aload_n 2, 1) := by decide +kernel
theorem dX1_doRemove_32 : decode cX1_doRemove 32 = .ok (.invokevirtual 403, 3) := by decide +kernel
theorem dX1_doRemove_35 : decode cX1_doRemove 35 = .ok (.ifCond .ne 13, 3) := by decide +kernel
theorem dX1_doRemove_38 : decode cX1_doRemove 38 = .ok (.aload_n 0, 1) := by decide +kernel
theorem dX1_doRemove_39 : decode cX1_doRemove 39 = .ok (.getfield 53, 3) := by decide +kernel
theorem dX1_doRemove_42 : decode cX1_doRemove 42 = .ok (.bipush (-4), 2) := by decide +kernel
theorem dX1_doRemove_44 : decode cX1_doRemove 44 = .ok (.invokevirtual 364, 3) := by decide +kernel
theorem dX1_doRemove_47 : decode cX1_doRemove 47 = .ok (.athrow, 1) := by decide +kernel
theorem dX1_doRemove_48 : decode cX1_doRemove 48 = .ok (.aload_n 0, 1) := by decide +kernel
theorem dX1_doRemove_49 : decode cX1_doRemove 49 = .ok (.iconst 3, 1) := by decide +kernel
theorem dX1_doRemove_50 : decode cX1_doRemove 50 = .ok (.aload_n 2, 1) := by decide +kernel
theorem dX1_doRemove_51 : decode cX1_doRemove 51 = .ok (.getfield 448, 3) := by decide +kernel
theorem dX1_doRemove_54 : decode cX1_doRemove 54 = .ok (.invokevirtual 650, 3) := by decide +kernel
theorem dX1_doRemove_57 : decode cX1_doRemove 57 = .ok (.aload_n 2, 1) := by decide +kernel
theorem dX1_doRemove_58 : decode cX1_doRemove 58 = .ok (.invokevirtual 671, 3) := by decide +kernel
theorem dX1_doRemove_61 : decode cX1_doRemove 61 = .ok (.ifCond .le 13, 3) := by decide +kernel
theorem dX1_doRemove_64 : decode cX1_doRemove 64 = .ok (.aload_n 0, 1) := by decide +kernel
theorem dX1_doRemove_65 : decode cX1_doRemove 65 = .ok (.getfield 53, 3) := by decide +kernel
theorem dX1_doRemove_68 : decode cX1_doRemove 68 = .ok (.bipush (-12), 2) := by decide +kernel
theorem dX1_doRemove_70 : decode cX1_doRemove 70 = .ok (.invokevirtual 364, 3) := by decide +kernel
theorem dX1_doRemove_73 : decode cX1_doRemove 73 = .ok (.athrow, 1) := by decide +kernel
theorem dX1_doRemove_74 : decode cX1_doRemove 74 = .ok (.aload_n 0, 1) := by decide +kernel
theorem dX1_doRemove_75 : decode cX1_doRemove 75 = .ok (.getfield 76, 3) := by decide +kernel
theorem dX1_doRemove_78 : decode cX1_doRemove 78 = .ok (.aload_n 0, 1) := by decide +kernel
theorem dX1_doRemove_79 : decode cX1_doRemove 79 = .ok (.getfield 76, 3) := by decide +kernel
theorem dX1_doRemove_82 : decode cX1_doRemove 82 = .ok (.getfield 658, 3) := by decide +kernel
theorem dX1_doRemove_85 : decode cX1_doRemove 85 = .ok (.iconst 1, 1) := by decide +kernel
theorem dX1_doRemove_86 : decode cX1_doRemove 86 = .ok (.isub, 1) := by decide +kernel
theorem dX1_doRemove_87 : decode cX1_doRemove 87 = .ok (.aload_n 1, 1) := by decide +kernel
theorem dX1_doRemove_88 : decode cX1_doRemove 88 = .ok (.iconst 1, 1) := by decide +kernel
theorem dX1_doRemove_89 : decode cX1_doRemove 89 = .ok (.invokevirtual 661, 3) := by decide +kernel
theorem dX1_doRemove_92 : decode cX1_doRemove 92 = .ok (.aload_n 0, 1) := by decide +kernel
theorem dX1_doRemove_93 : decode cX1_doRemove 93 = .ok (.iconst 4, 1) := by decide +kernel
theorem dX1_doRemove_94 : decode cX1_doRemove 94 = .ok (.aload_n 2, 1) := by decide +kernel
theorem dX1_doRemove_95 : decode cX1_doRemove 95 = .ok (.getfield 448, 3) := by decide +kernel
theorem dX1_doRemove_98 : decode cX1_doRemove 98 = .ok (.invokevirtual 588, 3) := by decide +kernel
theorem dX1_doRemove_101 : decode cX1_doRemove 101 = .ok (.aload_n 0, 1) := by decide +kernel
theorem dX1_doRemove_102 : decode cX1_doRemove 102 = .ok (.aload_n 0, 1) := by decide +kernel
theorem dX1_doRemove_103 : decode cX1_doRemove 103 = .ok (.getfield 76, 3) := by decide +kernel
theorem dX1_doRemove_106 : decode cX1_doRemove 106 = .ok (.aload_n 1, 1) := by decide +kernel
theorem dX1_doRemove_107 : decode cX1_doRemove 107 = .ok (.invokevirtual 664, 3) := by decide +kernel
theorem dX1_doRemove_110 : decode cX1_doRemove 110 = .ok (.aload_n 0, 1) := by decide +kernel
theorem dX1_doRemove_111 : decode cX1_doRemove 111 = .ok (.aload_n 2, 1) := by decide +kernel
theorem dX1_doRemove_112 : decode cX1_doRemove 112 = .ok (.invokevirtual 674, 3) := by decide +kernel
theorem dX1_doRemove_115 : decode cX1_doRemove 115 = .ok (.iconst 0, 1) := by decide +kernel
theorem dX1_doRemove_116 : decode cX1_doRemove 116 = .ok (.ireturn, 1) := by decide +kernel
set_option maxHeartbeats 4000000 in
set_option maxRecDepth 100000 in
theorem c_X1_doRemove {G : xG} {n : Nat} {Q : Outcome → xS → Prop} {x : kX} {I : xI} {R : xR} {v : kV} {th : List xTh} {mm : Nat} (hT : KT x v th) (hK : KI (I, R, th) x.N mm) {st : Nat} {fr lg : Nat → Nat} (hp : PS I 0 st fr lg) {tp : Nat → Int32} (htp : I 27 0 = tp) (h1 : 1 ≤ st) (hmm : mm + 100 < 16384) {me : Nat} (hme : R 0 0 19 = some me) (hme16 : me < 16) (hn : 14 ≤ n) (hq : kOs Q x (kDoRem x.N (I, R, th) me tp fr lg st)) : xCall G mX1_doRemove n [.ref (x.ad 0 0)] (kS I R x v) Q := by
  refine x_met (L0 := [(1, .ref (x.ad 0 0)), xo, xo]) (by decide +kernel) rfl ⟨Nat.le_of_ble_eq_true rfl, rfl⟩ ?_
  have hnb := hT.ks.nb
  unfold kDoRem at hq
  have hp12 := hp.2.1
  refine x_aload_n 1 dX1_doRemove_0 rfl rfl ?_
  refine x_getz 4 dX1_doRemove_1 rfl fl_X1_76 (hT.ks.l0 (by omega)) (hT.ks.z0_23 (by omega)) ?_
  try unfold kLst at hq
  obtain ⟨hw_1, hq⟩ := hq.asB
  have hwk_1 := kWk_some hw_1
  have hwN_1 := hK.rf.wk hwk_1
  obtain ⟨r_1, hd1⟩ : ∃ r : kO × Nat, r = kLast x.N (I, R, th) me tp fr lg (kBeg ((I, R, th)).1 0 (kWk (I, R, th) me)) st := ⟨_, rfl⟩
  rw [← hd1] at hq
  have hKS_1 := KI.last (me := me) (tp := tp) (fr := fr) (lg := lg) hK (d := (kBeg ((I, R, th)).1 0 (kWk (I, R, th) me))) (kBeg_lt hwN_1) (by omega) (st := st) (by omega)
  rw [← hd1] at hKS_1
  obtain ⟨hKa_1, hSa_1, hdN_1⟩ := hKS_1
  have hK_1 := hKa_1.le (m' := mm + 12) (by omega)
  have hS_1 := (kSx.rfl (s := (I, R, th))).trans hSa_1
  refine x_callV (as := []) (rest := []) (i := 0) (n' := n - 1) 7 dX1_doRemove_4 rfl mv_X1_616 rfl rfl (hT.ks.l4 (by omega)) (xnh rfl) (by omega) (xst (Nat.le_of_ble_eq_true rfl)) (c_X5_last (i := 0) (fr := fr) (lg := lg) hT hK (by omega) (hp.fx (kSx.rfl (s := (I, R, th))).1) (tp_fx htp (kSx.rfl (s := (I, R, th))).1) (by omega) ((kSx.rfl (s := (I, R, th))).2 0 0 19 rfl |>.trans hme) hme16 hwk_1 hwN_1 (by omega) (by omega) (kOutP hd1 ⟨?_, ?_⟩))
  · skip
    intro hz1 w1 hU1
    change X _ _ _ _ _ _ _ _ _ _
    rw [kB_ok hz1] at hq
    refine x_astore_n 8 [(1, .ref (x.ad 0 0)), (1, .ref (x.ad 6 r_1.2)), xo] dX1_doRemove_7 rfl (by decide) rfl ?_
    refine x_aload_n 9 dX1_doRemove_8 rfl rfl ?_
    refine x_getz 12 dX1_doRemove_9 rfl fl_X1_76 (hU1.ks.l0 (by omega)) (hU1.ks.z0_23 (by omega)) ?_
    refine x_aload_n 13 dX1_doRemove_12 rfl rfl ?_
    refine x_callV (as := [.ref (x.ad 6 r_1.2)]) (rest := []) (i := 0) (n' := n - 1) 16 dX1_doRemove_13 rfl mv_X1_619 rfl rfl (hU1.ks.l4 (by omega)) (xnh rfl) (by omega) (xst (Nat.le_of_ble_eq_true rfl)) (c_X5_lastEntry (I := kI r_1.1.2.1 w1.t) (i := 0) (fr := fr) (lg := lg) (d := r_1.2) hU1.ks (by omega) (show PS r_1.1.2.1 0 st fr lg from (hp.fx (hS_1).1)) (by omega) (by omega) (fun d_ s_ _ _ => hK_1.wf.now d_ s_) (by omega) ?_)
    change X _ _ _ _ _ _ _ _ _ _
    refine x_vr (w := iEntry r_1.1.2.1 r_1.2 tp (fr (st - 1)) (lg (st - 1))) (by rw [← (tp_fx htp (hS_1).1)]; rfl) ?_
    refine x_nmr fun r1 hr1 => ?_
    refine x_astore_nr 17 [(1, .ref (x.ad 0 0)), (1, .ref (x.ad 6 r_1.2)), (1, va_re (x.ad 6) r1)] dX1_doRemove_16 rfl (by decide) rfl ?_
    refine x_aload_nr 18 dX1_doRemove_17 rfl rfl ?_
    refine x_ifnonnull 31 21 dX1_doRemove_18 (by decide) rfl (fun j1 c18 => ?_) (fun c18 => ?_)
    · skip
      rw [← hr1, c18] at hq
      dsimp only at hq
      have hjN := iEntry_N hK_1.wf (by omega) (by omega) hr1 c18
      refine x_aload_nr 32 dX1_doRemove_31 rfl rfl ?_
      refine x_some c18 ?_
      refine x_callV (as := []) (rest := []) (i := j1) (n' := n - 1) 35 dX1_doRemove_32 rfl mv_X1_403 rfl rfl (hU1.ks.l6 (by omega)) (xnh rfl) (by omega) (xst (Nat.le_of_ble_eq_true rfl)) (c_X7_isDirectory hU1.ks (by omega) (by omega) ?_)
      change X _ _ _ _ _ _ _ _ _ _
      refine x_vi (w := b2i (iDir r_1.1.2.1 j1)) rfl ?_
      refine x_if_ne 48 38 dX1_doRemove_35 (by decide) rfl (fun c35 => ?_) (fun c35 => ?_)
      · skip
        have c35 : iDir r_1.1.2.1 j1 := b2i_n0.mp c35
        rw [cif_t (show iDir r_1.1.2.1 j1 from c35)] at hq
        refine x_aload_n 49 dX1_doRemove_48 rfl rfl ?_
        refine x_iconst (v := 3) 50 dX1_doRemove_49 rfl rfl ?_
        refine x_aload_nr 51 dX1_doRemove_50 rfl rfl ?_
        refine x_some c18 ?_
        refine x_geti 54 dX1_doRemove_51 rfl fl_X1_448 (hU1.ks.l6 (by omega)) ?_
        refine x_vi (w := r_1.1.2.1 6 j1 0) rfl ?_
        refine x_vi (w := nI j1) (hK_1.nm.1 j1 (by omega)) ?_
        obtain ⟨r_2, hd2⟩ : ∃ r : kO, r = kAccess x.N r_1.1.2 me 3 (nI j1) 0 0 0 := ⟨_, rfl⟩
        rw [← hd2] at hq
        have hK_2 : KI r_2.2 x.N ((mm + 12) + 1) := by rw [hd2]; exact hK_1.access (hoaN (g := 3) (by omega) kOf3)
        have hS_2 : kSx (I, R, th) r_2.2 := (hS_1).trans (by rw [hd2]; exact sx_access)
        refine x_callV (as := [.int 3, .int (nI j1)]) (rest := []) (i := 0) (n' := n - 1) 57 dX1_doRemove_54 rfl mv_X1_650 rfl rfl (hU1.ks.l0 (by omega)) (xnh rfl) (by omega) (xst (Nat.le_of_ble_eq_true rfl)) (c_X1_reads (g := 3) (oa := nI j1) hU1 hK_1 (hoaN (g := 3) (by omega) kOf3) (by omega) ((hS_1).2 0 0 19 rfl |>.trans hme) hme16 (by omega) (kOutN hd2 ⟨?_, ?_⟩))
        · skip
          intro hz2 w2 hU2
          change X _ _ _ _ _ _ _ _ _ _
          rw [kU_ok hz2] at hq
          have hent := cntN_le (P := fun q => ¬ r_2.2.1 41 j1 q ≤ 0) 512
          have hent2 : iEntries r_2.2.1 j1 ≤ 512 := hent
          refine x_aload_nr 58 dX1_doRemove_57 rfl rfl ?_
          refine x_some c18 ?_
          refine x_callV (as := []) (rest := []) (i := j1) (n' := n - 1) 61 dX1_doRemove_58 rfl mv_X1_671 rfl rfl (hU2.ks.l6 (by omega)) (xnh rfl) (by omega) (xst (Nat.le_of_ble_eq_true rfl)) (c_X7_entries hU2.ks (by omega) (by omega) ?_)
          change X _ _ _ _ _ _ _ _ _ _
          refine x_vi (w := nI (iEntries r_2.2.1 j1)) rfl ?_
          refine x_if_le 74 64 dX1_doRemove_61 (by decide) rfl (fun c61 => ?_) (fun c61 => ?_)
          · skip
            rw [nI_le0 (by omega)] at c61
            rw [if_neg (by omega)] at hq
            refine x_aload_n 75 dX1_doRemove_74 rfl rfl ?_
            refine x_getz 78 dX1_doRemove_75 rfl fl_X1_76 (hU2.ks.l0 (by omega)) (hU2.ks.z0_23 (by omega)) ?_
            refine x_aload_n 79 dX1_doRemove_78 rfl rfl ?_
            refine x_getz 82 dX1_doRemove_79 rfl fl_X1_76 (hU2.ks.l0 (by omega)) (hU2.ks.z0_23 (by omega)) ?_
            refine x_geti 85 dX1_doRemove_82 rfl fl_X1_658 (hU2.ks.l4 (by omega)) ?_
            refine x_vi (w := r_2.2.1 4 0 2) rfl ?_
            refine x_vi (w := nI st) ((hp.fx (hS_2).1)).1 ?_
            refine x_iconst (v := 1) 86 dX1_doRemove_85 rfl rfl ?_
            refine x_isubn st 1 87 dX1_doRemove_86 rfl rfl rfl (by omega) ?_
            refine x_aload_n 88 dX1_doRemove_87 rfl rfl ?_
            refine x_iconst (v := 1) 89 dX1_doRemove_88 rfl rfl ?_
            obtain ⟨r_3, hd3⟩ : ∃ r : kO, r = kAccE x.N r_2.2 me tp fr lg (st - 1) r_1.2 1 := ⟨_, rfl⟩
            rw [← hd3] at hq
            have hK_3 : KI r_3.2 x.N ((mm + 13) + 1) := by rw [hd3]; unfold kAccE; exact hK_2.access (hoaN (g := 2) (by omega) kOf2)
            have hS_3 : kSx (I, R, th) r_3.2 := (hS_2).trans (by rw [hd3]; unfold kAccE; exact sx_access)
            refine x_callV (as := [.int (nI (st - 1)), .ref (x.ad 6 r_1.2), .int 1]) (rest := []) (i := 0) (n' := n - 1) 92 dX1_doRemove_89 rfl mv_X1_661 rfl rfl (hU2.ks.l4 (by omega)) (xnh rfl) (by omega) (xst (Nat.le_of_ble_eq_true rfl)) (c_X5_access (w := 1) (i := 0) (fr := fr) (lg := lg) (k := st - 1) hU2 hK_2 (by omega) (hp.fx (hS_2).1) (tp_fx htp (hS_2).1) (by omega) (by omega) (by omega) ((hS_2).2 0 0 19 rfl |>.trans hme) hme16 (by omega) (kOutN hd3 ⟨?_, ?_⟩))
            · skip
              intro hz3 w3 hU3
              change X _ _ _ _ _ _ _ _ _ _
              rw [kU_ok hz3] at hq
              refine x_aload_n 93 dX1_doRemove_92 rfl rfl ?_
              refine x_iconst (v := 4) 94 dX1_doRemove_93 rfl rfl ?_
              refine x_aload_nr 95 dX1_doRemove_94 rfl rfl ?_
              refine x_some c18 ?_
              refine x_geti 98 dX1_doRemove_95 rfl fl_X1_448 (hU3.ks.l6 (by omega)) ?_
              refine x_vi (w := r_3.2.1 6 j1 0) rfl ?_
              refine x_vi (w := nI j1) (hK_3.nm.1 j1 (by omega)) ?_
              obtain ⟨r_4, hd4⟩ : ∃ r : kO, r = kAccess x.N r_3.2 me 4 (nI j1) 0 0 1 := ⟨_, rfl⟩
              rw [← hd4] at hq
              have hK_4 : KI r_4.2 x.N ((mm + 14) + 1) := by rw [hd4]; exact hK_3.access (hoaN (g := 4) (by omega) (kOf4 (by omega)))
              have hS_4 : kSx (I, R, th) r_4.2 := (hS_3).trans (by rw [hd4]; exact sx_access)
              refine x_callV (as := [.int 4, .int (nI j1)]) (rest := []) (i := 0) (n' := n - 1) 101 dX1_doRemove_98 rfl mv_X1_588 rfl rfl (hU3.ks.l0 (by omega)) (xnh rfl) (by omega) (xst (Nat.le_of_ble_eq_true rfl)) (c_X1_writes (g := 4) (oa := nI j1) hU3 hK_3 (hoaN (g := 4) (by omega) (kOf4 (by omega))) (by omega) ((hS_3).2 0 0 19 rfl |>.trans hme) hme16 (by omega) (kOutN hd4 ⟨?_, ?_⟩))
              · skip
                intro hz4 w4 hU4
                change X _ _ _ _ _ _ _ _ _ _
                rw [kU_ok hz4] at hq
                refine x_aload_n 102 dX1_doRemove_101 rfl rfl ?_
                refine x_aload_n 103 dX1_doRemove_102 rfl rfl ?_
                refine x_getz 106 dX1_doRemove_103 rfl fl_X1_76 (hU4.ks.l0 (by omega)) (hU4.ks.z0_23 (by omega)) ?_
                refine x_aload_n 107 dX1_doRemove_106 rfl rfl ?_
                obtain ⟨hsl_, hq⟩ := hq.as
                have hsl2 := kSlt_n hsl_
                refine x_callV (as := [.ref (x.ad 4 0), .ref (x.ad 6 r_1.2)]) (rest := []) (i := 0) (n' := n - 1) 110 dX1_doRemove_107 rfl mv_X1_664 rfl rfl (hU4.ks.l0 (by omega)) (xnh rfl) (by omega) (xst (Nat.le_of_ble_eq_true rfl)) (c_X1_drop (I := kI r_4.2.1 w4.t) (i := 0) (fr := fr) (lg := lg) (d := r_1.2) (s := (iN (kSlt r_4.2 r_1.2 tp fr lg st))) hU4.ks (by omega) (show PS r_4.2.1 0 st fr lg from (hp.fx (hS_4).1)) (by omega) (by omega) hsl2.1 (by rw [show kI r_4.2.1 w4.t 27 0 = tp from (show r_4.2.1 27 0 = tp from (tp_fx htp (hS_4).1))]; exact hsl2.2) (by omega) ?_)
                change X _ _ _ _ _ _ _ _ _ _
                refine k_nmA (v := w4) (A1 := (kDrp r_4.2.1 r_1.2 (iN (kSlt r_4.2 r_1.2 tp fr lg st)))) kI_kDrp fun I1 hI1 => ?_
                refine x_aload_n 111 dX1_doRemove_110 rfl rfl ?_
                refine x_aload_nr 112 dX1_doRemove_111 rfl rfl ?_
                refine x_some c18 ?_
                refine x_callV (as := [.ref (x.ad 6 j1)]) (rest := []) (i := 0) (n' := n - 1) 115 dX1_doRemove_112 rfl mv_X1_674 rfl rfl (hU4.ks.l0 (by omega)) (xnh rfl) (by omega) (xst (Nat.le_of_ble_eq_true rfl)) (c_X1_dropDirectory hU4.ks (by omega) (by omega) ?_)
                change X _ _ _ _ _ _ _ _ _ _
                refine k_nmA (v := w4) (A1 := (kDropD I1 j1)) kI_kDropD fun I2 hI2 => ?_
                refine x_iconst (v := 0) 116 dX1_doRemove_115 rfl rfl ?_
                refine x_ireturn dX1_doRemove_116 rfl ?_
                rw [hI2, hI1]
                exact hq.ret hU4
              · skip
                intro hz4 w4 hU4
                rw [kU_no hz4] at hq
                exact hq.no hz4 hU4
            · skip
              intro hz3 w3 hU3
              rw [kU_no hz3] at hq
              exact hq.no hz3 hU3
          · skip
            rw [nI_le0 (by omega)] at c61
            rw [if_pos (by omega)] at hq
            refine x_aload_n 65 dX1_doRemove_64 rfl rfl ?_
            refine x_getz 68 dX1_doRemove_65 rfl fl_X1_53 (hU2.ks.l0 (by omega)) (hU2.ks.z0_10 (by omega)) ?_
            refine x_bipush (v := -12) 70 dX1_doRemove_68 rfl rfl ?_
            refine x_callV (as := [.int (-12)]) (rest := []) (i := 0) (n' := n - 1) 73 dX1_doRemove_70 rfl mv_X1_364 rfl rfl (hU2.ks.l3 (by omega)) (xnh rfl) (by omega) (xst (Nat.le_of_ble_eq_true rfl)) (c_X4_by hU2.ks (by omega) ?_)
            change X _ _ _ _ _ _ _ _ _ _
            refine k_nmA (v := w2) (A1 := (xu r_2.2.1 3 0 0 ((-12)))) (by (repeat (first | rw [kI_xu] | rw [kI_xur] | rw [kI_xfil])) <;> rfl) fun I1 hI1 => ?_
            refine x_athrow dX1_doRemove_73 (xnh rfl) ?_
            rw [hI1]
            exact hq.thr (by decide) hU2
        · skip
          intro hz2 w2 hU2
          rw [kU_no hz2] at hq
          exact hq.no hz2 hU2
      · skip
        have c35 : ¬ (iDir r_1.1.2.1 j1) := b2i_0.mp c35
        rw [cif_f (show ¬ iDir r_1.1.2.1 j1 from c35)] at hq
        refine x_aload_n 39 dX1_doRemove_38 rfl rfl ?_
        refine x_getz 42 dX1_doRemove_39 rfl fl_X1_53 (hU1.ks.l0 (by omega)) (hU1.ks.z0_10 (by omega)) ?_
        refine x_bipush (v := -4) 44 dX1_doRemove_42 rfl rfl ?_
        refine x_callV (as := [.int (-4)]) (rest := []) (i := 0) (n' := n - 1) 47 dX1_doRemove_44 rfl mv_X1_364 rfl rfl (hU1.ks.l3 (by omega)) (xnh rfl) (by omega) (xst (Nat.le_of_ble_eq_true rfl)) (c_X4_by hU1.ks (by omega) ?_)
        change X _ _ _ _ _ _ _ _ _ _
        refine k_nmA (v := w1) (A1 := (xu r_1.1.2.1 3 0 0 ((-4)))) (by (repeat (first | rw [kI_xu] | rw [kI_xur] | rw [kI_xfil])) <;> rfl) fun I1 hI1 => ?_
        refine x_athrow dX1_doRemove_47 (xnh rfl) ?_
        rw [hI1]
        exact hq.thr (by decide) hU1
    · skip
      rw [← hr1, c18] at hq
      dsimp only at hq
      refine x_aload_n 22 dX1_doRemove_21 rfl rfl ?_
      refine x_getz 25 dX1_doRemove_22 rfl fl_X1_53 (hU1.ks.l0 (by omega)) (hU1.ks.z0_10 (by omega)) ?_
      refine x_bipush (v := -2) 27 dX1_doRemove_25 rfl rfl ?_
      refine x_callV (as := [.int (-2)]) (rest := []) (i := 0) (n' := n - 1) 30 dX1_doRemove_27 rfl mv_X1_364 rfl rfl (hU1.ks.l3 (by omega)) (xnh rfl) (by omega) (xst (Nat.le_of_ble_eq_true rfl)) (c_X4_by hU1.ks (by omega) ?_)
      change X _ _ _ _ _ _ _ _ _ _
      refine k_nmA (v := w1) (A1 := (xu r_1.1.2.1 3 0 0 ((-2)))) (by (repeat (first | rw [kI_xu] | rw [kI_xur] | rw [kI_xfil])) <;> rfl) fun I1 hI1 => ?_
      refine x_athrow dX1_doRemove_30 (xnh rfl) ?_
      rw [hI1]
      exact hq.thr (by decide) hU1
  · skip
    intro hz1 w1 hU1
    rw [kB_no hz1] at hq
    exact hq.no hz1 hU1
