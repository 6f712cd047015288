set_option maxRecDepth 100000
theorem KI.ref {s : kK} {N m : Nat} {c : Int32} (h : KI s N m) : KI (kRefuse s c).2 N m := h.u rfl rfl
theorem sx_ref {s : kK} {c : Int32} : kSx s (kRefuse s c).2 := ⟨kFx.rfl.u rfl, kCx.rfl⟩
theorem KI.step {s : kK} {N m me k d : Nat} {tp : Nat → Int32} {fr lg : Nat → Nat} (h : KI s N m) (hd : d < N) (hN : N < 1000) : KI (kStep N s me tp fr lg k d).1.2 N (m + 1) ∧ kSx s (kStep N s me tp fr lg k d).1.2 ∧ (kStep N s me tp fr lg k d).2 < N := by
  unfold kStep
  by_cases h1 : ¬ iDir s.1 d
  · rw [cif_t h1]; exact ⟨h.ref.le (Nat.le_succ m), sx_ref, hd⟩
  · rw [cif_f h1]
    by_cases h2 : pDots tp fr lg k 1
    · rw [cif_t h2]; exact ⟨h.le (Nat.le_succ m), kSx.rfl, hd⟩
    · rw [cif_f h2]
      by_cases h3 : pDots tp fr lg k 2
      · rw [cif_t h3]
        by_cases h4 : d = 0
        · rw [if_pos h4]; exact ⟨h.le (Nat.le_succ m), kSx.rfl, hd⟩
        · rw [if_neg h4]
          have hK := h.access (me := me) (x := 0) (y := 0) (w := 0) (hoaN (g := 4) (by omega) (kOf4 hd))
          unfold kStepU
          split
          · refine ⟨hK, sx_access, ?_⟩
            split
            · exact hd
            · have := (hK.wf.up d).2; omega
          · exact ⟨hK, sx_access, hd⟩
      · rw [cif_f h3]
        have hK : KI (kAccE N s me tp fr lg k d 0).2 N (m + 1) := by unfold kAccE; exact h.access (hoaN (g := 2) (by omega) kOf2)
        have hS : kSx s (kAccE N s me tp fr lg k d 0).2 := by unfold kAccE; exact sx_access
        unfold kStepE
        split
        · split
          · exact ⟨hK.ref, hS.trans sx_ref, hd⟩
          · next j hj => exact ⟨hK, hS, iEntry_lt (fun d_ s_ _ _ => hK.wf.now d_ s_) hd hN hj⟩
        · exact ⟨hK, hS, hd⟩
/-- where the first steps lead -/
noncomputable def kWalk (N : Nat) (s : kK) (me : Nat) (tp : Nat → Int32) (fr lg : Nat → Nat) (d : Nat) : Nat → kO × Nat
  | 0 => ((0, s), d)
  | k + 1 => if (kWalk N s me tp fr lg d k).1.1 = 0 then kStep N (kWalk N s me tp fr lg d k).1.2 me tp fr lg k (kWalk N s me tp fr lg d k).2 else kWalk N s me tp fr lg d k
theorem kWalk_stop {N : Nat} {s : kK} {me : Nat} {tp : Nat → Int32} {fr lg : Nat → Nat} {d k : Nat} (h : ¬ (kWalk N s me tp fr lg d k).1.1 = 0) : ∀ j, kWalk N s me tp fr lg d (k + j) = kWalk N s me tp fr lg d k
  | 0 => rfl
  | j + 1 => by
    show (if (kWalk N s me tp fr lg d (k + j)).1.1 = 0 then _ else kWalk N s me tp fr lg d (k + j)) = _
    rw [kWalk_stop h j, if_neg h]
theorem KI.walk {s : kK} {N m me d : Nat} {tp : Nat → Int32} {fr lg : Nat → Nat} (h : KI s N m) (hd : d < N) (hN : N < 1000) : ∀ k, KI (kWalk N s me tp fr lg d k).1.2 N (m + k) ∧ kSx s (kWalk N s me tp fr lg d k).1.2 ∧ (kWalk N s me tp fr lg d k).2 < N
  | 0 => ⟨h, kSx.rfl, hd⟩
  | k + 1 => by
    obtain ⟨h1, h2, h3⟩ := KI.walk h hd hN k
    show KI (if (kWalk N s me tp fr lg d k).1.1 = 0 then _ else kWalk N s me tp fr lg d k).1.2 N (m + (k + 1)) ∧ kSx s (if (kWalk N s me tp fr lg d k).1.1 = 0 then _ else kWalk N s me tp fr lg d k).1.2 ∧ (if (kWalk N s me tp fr lg d k).1.1 = 0 then _ else kWalk N s me tp fr lg d k).2 < N
    split
    · obtain ⟨g1, g2, g3⟩ := KI.step (me := me) (tp := tp) (fr := fr) (lg := lg) (k := k) h1 h3 hN
      exact ⟨g1, h2.trans g2, g3⟩
    · exact ⟨h1.le (by omega), h2, h3⟩
theorem dX5_walk_0 : decode cX5_walk 0 = .ok (.aload_n 0, 1) := by decide +kernel
theorem dX5_walk_1 : decode cX5_walk 1 = .ok (.getfield 30, 3) := by decide +kernel
theorem dX5_walk_4 : decode cX5_walk 4 = .ok (.ifCond .eq 15, 3) := by decide +kernel
theorem dX5_walk_7 : decode cX5_walk 7 = .ok (.aload_n 0, 1) := by decide +kernel
theorem dX5_walk_8 : decode cX5_walk 8 = .ok (.getfield 3, 3) := by decide +kernel
theorem dX5_walk_11 : decode cX5_walk 11 = .ok (.getfield 64, 3) := by decide +kernel
theorem dX5_walk_14 : decode cX5_walk 14 = .ok (.iconst 0, 1) := by decide +kernel
theorem dX5_walk_15 : decode cX5_walk 15 = .ok (.aaload, 1) := by decide +kernel
theorem dX5_walk_16 : decode cX5_walk 16 = .ok (.goto 13, 3) := by decide +kernel
theorem dX5_walk_19 : decode cX5_walk 19 = .ok (.aload_n 0, 1) := by decide +kernel
theorem dX5_walk_20 : decode cX5_walk 20 = .ok (.getfield 3, 3) := by decide +kernel
theorem dX5_walk_23 : decode cX5_walk 23 = .ok (.getfield 71, 3) := by decide +kernel
theorem dX5_walk_26 : decode cX5_walk 26 = .ok (.getfield 75, 3) := by decide +kernel
theorem dX5_walk_29 : decode cX5_walk 29 = .ok (.astore_n 2, 1) := by decide +kernel
theorem dX5_walk_30 : decode cX5_walk 30 = .ok (.iconst 0, 1) := by decide +kernel
theorem dX5_walk_31 : decode cX5_walk 31 = .ok (.istore_n 3, 1) := by decide +kernel
theorem dX5_walk_32 : decode cX5_walk 32 = .ok (.iload_n 3, 1) := by decide +kernel
theorem dX5_walk_33 : decode cX5_walk 33 = .ok (.iload_n 1, 1) := by decide +kernel
theorem dX5_walk_34 : decode cX5_walk 34 = .ok (.if_icmp .ge 16, 3) := by decide +kernel
theorem dX5_walk_37 : decode cX5_walk 37 = .ok (.aload_n 0, 1) := by decide +kernel
theorem dX5_walk_38 : decode cX5_walk 38 = .ok (.iload_n 3, 1) := by decide +kernel
theorem dX5_walk_39 : decode cX5_walk 39 = .ok (.aload_n 2, 1) := by decide +kernel
theorem dX5_walk_40 : decode cX5_walk 40 = .ok (.invokevirtual 81, 3) := by decide +kernel
theorem dX5_walk_43 : decode cX5_walk 43 = .ok (.astore_n 2, 1) := by decide +kernel
theorem dX5_walk_44 : decode cX5_walk 44 = .ok (.iinc 3 1, 3) := by decide +kernel
theorem dX5_walk_47 : decode cX5_walk 47 = .ok (.goto (-15), 3) := by decide +kernel
theorem dX5_walk_50 : decode cX5_walk 50 = .ok (.aload_n 2, 1) := by decide +kernel
theorem dX5_walk_51 : decode cX5_walk 51 = .ok (.areturn, 1) := by decide +kernel
theorem kOutP {Q : Outcome → xS → Prop} {x : kX} {r t : kO × Nat} (h : r = t) (k : kOut Q x r.1 (some (.ref (x.ad 6 r.2)))) : kOut Q x t.1 (some (.ref (x.ad 6 t.2))) := by rw [← h]; exact k
set_option maxHeartbeats 4000000 in
set_option maxRecDepth 100000 in
theorem l_X5_walk {G : xG} {n a b : Nat} {Q : Outcome → xS → Prop} {x : kX} {s : kK} {mm : Nat} (hK : KI s x.N mm) {i st : Nat} (hi : i < 2) {fr lg : Nat → Nat} (hp : PS s.1 i st fr lg) {tp : Nat → Int32} (htp : s.1 27 0 = tp) {m d0 : Nat} (hm_ : m ≤ st) (hd0 : d0 < x.N) (hmm : mm + 12 < 16384) {me : Nat} (hme : s.2.1 0 0 19 = some me) (hme16 : me < 16) (hq : kOut Q x (kWalk x.N s me tp fr lg d0 m).1 (some (.ref (x.ad 6 (kWalk x.N s me tp fr lg d0 m).2)))) (k d : Nat) (I : xI) (R : xR) (th : List xTh) (v : kV) (hn : 10 ≤ n) :
    (k ≤ m) → (KT x v th) → (((0, (I, R, th)), d) = kWalk x.N s me tp fr lg d0 k) → X G mX5_walk n a b Q (kS I R x v) 32 [(1, .ref (x.ad 4 i)), (1, .int (nI m)), (1, .ref (x.ad 6 d)), (1, .int (nI k))] [] := by
  induction hm : m - k using Nat.strongRecOn generalizing k d I R th v with
  | _ m_ ih =>
    intro h8 hT hw
    have hnb := hT.ks.nb
    have hp12 := hp.2.1
    have hKw := KI.walk (me := me) (tp := tp) (fr := fr) (lg := lg) hK hd0 (by omega) k
    rw [← hw] at hKw
    obtain ⟨hKk, hSk, hdk⟩ := hKw
    have hdk2 : d < x.N := hdk
    have hmek : R 0 0 19 = some me := (hSk.2 0 0 19 rfl).trans hme
    refine x_iload_n 33 dX5_walk_32 rfl rfl ?_
    refine x_iload_n 34 dX5_walk_33 rfl rfl ?_
    refine x_icmp_ge 50 37 dX5_walk_34 (by decide) rfl (fun c34 => ?_) (fun c34 => ?_)
    · skip
      have c34 : m ≤ k := (nI_leI (a := m) (b := k) (by omega) (by omega)).mp c34
      refine x_aload_n 51 dX5_walk_50 rfl rfl ?_
      refine x_areturn dX5_walk_51 rfl (Or.inl ⟨_, rfl⟩) ?_
      have e : k = m := by omega
      rw [← e, ← hw] at hq
      exact hq.1 rfl _ hT
    · skip
      have c34 : ¬ (m ≤ k) := fun h => c34 ((nI_leI (a := m) (b := k) (by omega) (by omega)).mpr h)
      refine x_aload_n 38 dX5_walk_37 rfl rfl ?_
      refine x_iload_n 39 dX5_walk_38 rfl rfl ?_
      refine x_aload_n 40 dX5_walk_39 rfl rfl ?_
      obtain ⟨p_, hp_⟩ : ∃ p_ : kO × Nat, p_ = kStep x.N (I, R, th) me tp fr lg k d := ⟨_, rfl⟩
      have hw1 : kWalk x.N s me tp fr lg d0 (k + 1) = p_ := by show (if (kWalk x.N s me tp fr lg d0 k).1.1 = 0 then _ else _) = _; rw [← hw, if_pos rfl, hp_]
      refine x_callV (as := [.int (nI k), .ref (x.ad 6 d)]) (rest := []) (i := i) (n' := n - 1) 43 dX5_walk_40 rfl mv_X5_81 rfl rfl (hT.ks.l4 (by omega)) (xnh rfl) (by omega) (xst (Nat.le_of_ble_eq_true rfl)) (c_X5_step hT hKk hi (hp.fx hSk.1) (tp_fx htp hSk.1) (by omega) hdk (by omega) hmek hme16 (by omega) (kOutP hp_ ⟨?_, ?_⟩))
      · skip
        intro hz w1 hU1
        change X _ _ _ _ _ _ _ _ _ _
        refine x_astore_n 44 [(1, .ref (x.ad 4 i)), (1, .int (nI m)), (1, .ref (x.ad 6 p_.2)), (1, .int (nI k))] dX5_walk_43 rfl (by decide) rfl ?_
        refine x_iinc 47 [(1, .ref (x.ad 4 i)), (1, .int (nI m)), (1, .ref (x.ad 6 p_.2)), (1, .int (nI (k + 1)))] dX5_walk_44 rfl (by decide) rfl (xi_1 k) rfl ?_
        refine x_goto 32 dX5_walk_47 (by decide) ?_
        exact ih _ (by rw [← hm]; omega) (k + 1) p_.2 p_.1.2.1 p_.1.2.2.1 p_.1.2.2.2 w1 rfl (by omega) (hU1) (by rw [hw1, ← hz])
      · skip
        intro hz w1 hU1
        obtain ⟨j_, hj_⟩ : ∃ j_, m = (k + 1) + j_ := ⟨m - (k + 1), by omega⟩
        rw [hj_, kWalk_stop (by rw [hw1]; exact hz), hw1] at hq
        exact hq.2 hz _ hU1
/-- where a path begins -/
def kBeg (I : xI) (i wk : Nat) : Nat := if I 4 i 3 = 0 then wk else 0
set_option maxHeartbeats 4000000 in
set_option maxRecDepth 100000 in
theorem c_X5_walk {G : xG} {n : Nat} {Q : Outcome → xS → Prop} {x : kX} {I : xI} {R : xR} {v : kV} {th : List xTh} {mm : Nat} (hT : KT x v th) (hK : KI (I, R, th) x.N mm) {i st : Nat} (hi : i < 2) {fr lg : Nat → Nat} (hp : PS I i st fr lg) {tp : Nat → Int32} (htp : I 27 0 = tp) (hmm : mm + 12 < 16384) {me : Nat} (hme : R 0 0 19 = some me) (hme16 : me < 16) {wk : Nat} (hwk : R 9 me 5 = some wk) (hwN : wk < x.N) {m : Nat} (hm_ : m ≤ st) (hn : 10 ≤ n) (hq : kOut Q x (kWalk x.N (I, R, th) me tp fr lg (kBeg I i wk) m).1 (some (.ref (x.ad 6 (kWalk x.N (I, R, th) me tp fr lg (kBeg I i wk) m).2)))) : xCall G mX5_walk n [.ref (x.ad 4 i), .int (nI m)] (kS I R x v) Q := by
  refine x_met (L0 := [(1, .ref (x.ad 4 i)), (1, .int (nI m)), xo, xo]) (by decide +kernel) rfl ⟨Nat.le_of_ble_eq_true rfl, rfl⟩ ?_
  have hnb := hT.ks.nb
  refine x_aload_n 1 dX5_walk_0 rfl rfl ?_
  refine x_geti 4 dX5_walk_1 rfl fl_X5_30 (hT.ks.l4 (by omega)) ?_
  refine x_vi (w := I 4 i 3) rfl ?_
  refine x_if_eq 19 7 dX5_walk_4 (by decide) rfl (fun c4 => ?_) (fun c4 => ?_)
  · skip
    refine x_aload_n 20 dX5_walk_19 rfl rfl ?_
    refine x_getz 23 dX5_walk_20 rfl fl_X5_3 (hT.ks.l4 (by omega)) (hT.ks.z4_4 (by omega)) ?_
    refine x_gets 26 dX5_walk_23 rfl fl_X5_71 (hT.ks.l0 (by omega)) hme ?_
    refine x_gets 29 dX5_walk_26 rfl fl_X5_75 (hT.ks.l9 (by omega)) hwk ?_
    refine x_astore_n 30 [(1, .ref (x.ad 4 i)), (1, .int (nI m)), (1, .ref (x.ad 6 wk)), xo] dX5_walk_29 rfl (by decide) rfl ?_
    refine x_iconst (v := 0) 31 dX5_walk_30 rfl rfl ?_
    refine x_istore_n 32 [(1, .ref (x.ad 4 i)), (1, .int (nI m)), (1, .ref (x.ad 6 wk)), (1, .int 0)] dX5_walk_31 rfl (by decide) rfl ?_
    have e_ : kBeg I i wk = wk := if_pos c4
    rw [e_] at hq
    exact l_X5_walk (s := (I, R, th)) hK hi hp htp hm_ (by omega) hmm hme hme16 hq 0 wk I R th v hn (by omega) hT rfl
  · skip
    refine x_aload_n 8 dX5_walk_7 rfl rfl ?_
    refine x_getz 11 dX5_walk_8 rfl fl_X5_3 (hT.ks.l4 (by omega)) (hT.ks.z4_4 (by omega)) ?_
    refine x_getz 14 dX5_walk_11 rfl fl_X5_64 (hT.ks.l0 (by omega)) (hT.ks.z0_5 (by omega)) ?_
    refine x_iconst (v := 0) 15 dX5_walk_14 rfl rfl ?_
    refine x_vi (w := nI 0) rfl ?_
    refine x_aldz 16 dX5_walk_15 rfl ar_23 rfl (hT.ks.l23 (by omega)) (xb (hT.ks.n23 (by omega)) (by omega) (by omega)) (hT.ks.z23 (by omega)) ?_
    refine x_goto 29 dX5_walk_16 (by decide) ?_
    refine x_astore_n 30 [(1, .ref (x.ad 4 i)), (1, .int (nI m)), (1, .ref (x.ad 6 0)), xo] dX5_walk_29 rfl (by decide) rfl ?_
    refine x_iconst (v := 0) 31 dX5_walk_30 rfl rfl ?_
    refine x_istore_n 32 [(1, .ref (x.ad 4 i)), (1, .int (nI m)), (1, .ref (x.ad 6 0)), (1, .int 0)] dX5_walk_31 rfl (by decide) rfl ?_
    have e_ : kBeg I i wk = 0 := if_neg c4
    rw [e_] at hq
    exact l_X5_walk (s := (I, R, th)) hK hi hp htp hm_ (by omega) hmm hme hme16 hq 0 0 I R th v hn (by omega) hT rfl
theorem dX5_find_0 : decode cX5_find 0 = .ok (.aload_n 0, 1) := by decide +kernel
theorem dX5_find_1 : decode cX5_find 1 = .ok (.aload_n 0, 1) := by decide +kernel
theorem dX5_find_2 : decode cX5_find 2 = .ok (.getfield 22, 3) := by decide +kernel
theorem dX5_find_5 : decode cX5_find 5 = .ok (.invokevirtual 115, 3) := by decide +kernel
theorem dX5_find_8 : decode cX5_find 8 = .ok (.areturn, 1) := by decide +kernel
set_option maxHeartbeats 4000000 in
set_option maxRecDepth 100000 in
theorem c_X5_find {G : xG} {n : Nat} {Q : Outcome → xS → Prop} {x : kX} {I : xI} {R : xR} {v : kV} {th : List xTh} {mm : Nat} (hT : KT x v th) (hK : KI (I, R, th) x.N mm) {i st : Nat} (hi : i < 2) {fr lg : Nat → Nat} (hp : PS I i st fr lg) {tp : Nat → Int32} (htp : I 27 0 = tp) (hmm : mm + 12 < 16384) {me : Nat} (hme : R 0 0 19 = some me) (hme16 : me < 16) {wk : Nat} (hwk : R 9 me 5 = some wk) (hwN : wk < x.N) (hn : 11 ≤ n) (hq : kOut Q x (kWalk x.N (I, R, th) me tp fr lg (kBeg I i wk) st).1 (some (.ref (x.ad 6 (kWalk x.N (I, R, th) me tp fr lg (kBeg I i wk) st).2)))) : xCall G mX5_find n [.ref (x.ad 4 i)] (kS I R x v) Q := by
  refine x_met (L0 := [(1, .ref (x.ad 4 i))]) (by decide +kernel) rfl ⟨Nat.le_of_ble_eq_true rfl, rfl⟩ ?_
  have hnb := hT.ks.nb
  refine x_aload_n 1 dX5_find_0 rfl rfl ?_
  refine x_aload_n 2 dX5_find_1 rfl rfl ?_
  refine x_geti 5 dX5_find_2 rfl fl_X5_22 (hT.ks.l4 (by omega)) ?_
  refine x_vi (w := I 4 i 2) rfl ?_
  refine x_vi (w := nI st) hp.1 ?_
  obtain ⟨p_, hp_⟩ : ∃ p_ : kO × Nat, p_ = (kWalk x.N (I, R, th) me tp fr lg (kBeg I i wk) st) := ⟨_, rfl⟩
  refine x_callV (as := [.int (nI st)]) (rest := []) (i := i) (n' := n - 1) 8 dX5_find_5 rfl mv_X5_115 rfl rfl (hT.ks.l4 (by omega)) (xnh rfl) (by omega) (xst (Nat.le_of_ble_eq_true rfl)) (c_X5_walk (m := st) hT hK hi hp htp hmm hme hme16 hwk hwN (by omega) (by omega) (kOutP hp_ ⟨?_, ?_⟩))
  · skip
    intro hz w1 hU1
    change X _ _ _ _ _ _ _ _ _ _
    refine x_areturn dX5_find_8 rfl (Or.inl ⟨_, rfl⟩) ?_
    rw [← hp_] at hq
    exact hq.1 hz _ hU1
  · skip
    intro hz w1 hU1
    rw [← hp_] at hq
    exact hq.2 hz _ hU1
noncomputable def kLast (N : Nat) (s : kK) (me : Nat) (tp : Nat → Int32) (fr lg : Nat → Nat) (d0 st : Nat) : kO × Nat :=
  if (kWalk N s me tp fr lg d0 (st - 1)).1.1 = 0 then
    (cif (¬ iDir (kWalk N s me tp fr lg d0 (st - 1)).1.2.1 (kWalk N s me tp fr lg d0 (st - 1)).2) (kRefuse (kWalk N s me tp fr lg d0 (st - 1)).1.2 (-4))
      (kAccE N (kWalk N s me tp fr lg d0 (st - 1)).1.2 me tp fr lg (st - 1) (kWalk N s me tp fr lg d0 (st - 1)).2 0), (kWalk N s me tp fr lg d0 (st - 1)).2)
  else kWalk N s me tp fr lg d0 (st - 1)
theorem dX5_last_0 : decode cX5_last 0 = .ok (.aload_n 0, 1) := by decide +kernel
theorem dX5_last_1 : decode cX5_last 1 = .ok (.aload_n 0, 1) := by decide +kernel
theorem dX5_last_2 : decode cX5_last 2 = .ok (.getfield 22, 3) := by decide +kernel
theorem dX5_last_5 : decode cX5_last 5 = .ok (.iconst 1, 1) := by decide +kernel
theorem dX5_last_6 : decode cX5_last 6 = .ok (.isub, 1) := by decide +kernel
theorem dX5_last_7 : decode cX5_last 7 = .ok (.invokevirtual 115, 3) := by decide +kernel
theorem dX5_last_10 : decode cX5_last 10 = .ok (.astore_n 1, 1) := by decide +kernel
theorem dX5_last_11 : decode cX5_last 11 = .ok (.aload_n 0, 1) := by decide +kernel
theorem dX5_last_12 : decode cX5_last 12 = .ok (.aload_n 1, 1) := by decide +kernel
theorem dX5_last_13 : decode cX5_last 13 = .ok (.invokevirtual 85, 3) := by decide +kernel
theorem dX5_last_16 : decode cX5_last 16 = .ok (.aload_n 0, 1) := by decide +kernel
theorem dX5_last_17 : decode cX5_last 17 = .ok (.aload_n 0, 1) := by decide +kernel
theorem dX5_last_18 : decode cX5_last 18 = .ok (.getfield 22, 3) := by decide +kernel
theorem dX5_last_21 : decode cX5_last 21 = .ok (.iconst 1, 1) := by decide +kernel
theorem dX5_last_22 : decode cX5_last 22 = .ok (.isub, 1) := by decide +kernel
theorem dX5_last_23 : decode cX5_last 23 = .ok (.aload_n 1, 1) := by decide +kernel
theorem dX5_last_24 : decode cX5_last 24 = .ok (.iconst 0, 1) := by decide +kernel
theorem dX5_last_25 : decode cX5_last 25 = .ok (.invokevirtual 99, 3) := by decide +kernel
theorem dX5_last_28 : decode cX5_last 28 = .ok (.aload_n 1, 1) := by decide +kernel
theorem dX5_last_29 : decode cX5_last 29 = .ok (.areturn, 1) := by decide +kernel
set_option maxHeartbeats 4000000 in
set_option maxRecDepth 100000 in
theorem c_X5_last {G : xG} {n : Nat} {Q : Outcome → xS → Prop} {x : kX} {I : xI} {R : xR} {v : kV} {th : List xTh} {mm : Nat} (hT : KT x v th) (hK : KI (I, R, th) x.N mm) {i st : Nat} (hi : i < 2) {fr lg : Nat → Nat} (hp : PS I i st fr lg) {tp : Nat → Int32} (htp : I 27 0 = tp) (hmm : mm + 12 < 16384) {me : Nat} (hme : R 0 0 19 = some me) (hme16 : me < 16) {wk : Nat} (hwk : R 9 me 5 = some wk) (hwN : wk < x.N) (h1 : 1 ≤ st) (hn : 11 ≤ n) (hq : kOut Q x (kLast x.N (I, R, th) me tp fr lg (kBeg I i wk) st).1 (some (.ref (x.ad 6 (kLast x.N (I, R, th) me tp fr lg (kBeg I i wk) st).2)))) : xCall G mX5_last n [.ref (x.ad 4 i)] (kS I R x v) Q := by
  refine x_met (L0 := [(1, .ref (x.ad 4 i)), xo]) (by decide +kernel) rfl ⟨Nat.le_of_ble_eq_true rfl, rfl⟩ ?_
  have hnb := hT.ks.nb
  have hp12 := hp.2.1
  refine x_aload_n 1 dX5_last_0 rfl rfl ?_
  refine x_aload_n 2 dX5_last_1 rfl rfl ?_
  refine x_geti 5 dX5_last_2 rfl fl_X5_22 (hT.ks.l4 (by omega)) ?_
  refine x_vi (w := I 4 i 2) rfl ?_
  refine x_vi (w := nI st) hp.1 ?_
  refine x_iconst (v := 1) 6 dX5_last_5 rfl rfl ?_
  refine x_isubn st 1 7 dX5_last_6 rfl rfl rfl (by omega) ?_
  obtain ⟨p_, hp_⟩ : ∃ p_ : kO × Nat, p_ = (kWalk x.N (I, R, th) me tp fr lg (kBeg I i wk) (st - 1)) := ⟨_, rfl⟩
  refine x_callV (as := [.int (nI (st - 1))]) (rest := []) (i := i) (n' := n - 1) 10 dX5_last_7 rfl mv_X5_115 rfl rfl (hT.ks.l4 (by omega)) (xnh rfl) (by omega) (xst (Nat.le_of_ble_eq_true rfl)) (c_X5_walk (m := st - 1) hT hK hi hp htp hmm hme hme16 hwk hwN (by omega) (by omega) (kOutP hp_ ⟨?_, ?_⟩))
  · skip
    intro hz w1 hU1
    change X _ _ _ _ _ _ _ _ _ _
    have hwl := KI.walk (me := me) (tp := tp) (fr := fr) (lg := lg) hK (d := kBeg I i wk) (by unfold kBeg; split <;> omega) (by omega) (st - 1)
    rw [← hp_] at hwl
    obtain ⟨hKw, hSw, hdw⟩ := hwl
    have hdw2 : p_.2 < x.N := hdw
    refine x_astore_n 11 [(1, .ref (x.ad 4 i)), (1, .ref (x.ad 6 p_.2))] dX5_last_10 rfl (by decide) rfl ?_
    refine x_aload_n 12 dX5_last_11 rfl rfl ?_
    refine x_aload_n 13 dX5_last_12 rfl rfl ?_
    refine x_callV (as := [.ref (x.ad 6 p_.2)]) (rest := []) (i := i) (n' := n - 1) 16 dX5_last_13 rfl mv_X5_85 rfl rfl (hU1.ks.l4 (by omega)) (xnh rfl) (by omega) (xst (Nat.le_of_ble_eq_true rfl)) (c_X5_directory hU1.ks (by omega) (by omega) (by omega) ?_ ?_)
    · skip
      intro hdir
      change X _ _ _ _ _ _ _ _ _ _
      refine x_aload_n 17 dX5_last_16 rfl rfl ?_
      refine x_aload_n 18 dX5_last_17 rfl rfl ?_
      refine x_geti 21 dX5_last_18 rfl fl_X5_22 (hU1.ks.l4 (by omega)) ?_
      refine x_vi (w := p_.1.2.1 4 i 2) rfl ?_
      refine x_vi (w := nI st) ((hp.fx hSw.1).1) ?_
      refine x_iconst (v := 1) 22 dX5_last_21 rfl rfl ?_
      refine x_isubn st 1 23 dX5_last_22 rfl rfl rfl (by omega) ?_
      refine x_aload_n 24 dX5_last_23 rfl rfl ?_
      refine x_iconst (v := 0) 25 dX5_last_24 rfl rfl ?_
      have hdir2 : iDir p_.1.2.1 p_.2 := hdir
      unfold kLast at hq; rw [← hp_] at hq
      rw [if_pos hz, cif_f (fun h => h hdir2)] at hq
      refine x_callV (as := [.int (nI (st - 1)), .ref (x.ad 6 p_.2), .int 0]) (rest := []) (i := i) (n' := n - 1) 28 dX5_last_25 rfl mv_X5_99 rfl rfl (hU1.ks.l4 (by omega)) (xnh rfl) (by omega) (xst (Nat.le_of_ble_eq_true rfl)) (c_X5_access (w := 0) (k := st - 1) (d := p_.2) (mm := mm + (st - 1)) hU1 hKw hi (hp.fx hSw.1) (tp_fx htp hSw.1) (by omega) hdw (by omega) ((hSw.2 0 0 19 rfl).trans hme) hme16 (by omega) ⟨?_, ?_⟩)
      · skip
        intro hz2 w2 hU2
        change X _ _ _ _ _ _ _ _ _ _
        refine x_aload_n 29 dX5_last_28 rfl rfl ?_
        refine x_areturn dX5_last_29 rfl (Or.inl ⟨_, rfl⟩) ?_
        exact hq.1 hz2 _ hU2
      · skip
        intro hz2 w2 hU2
        exact hq.2 hz2 _ hU2
    · skip
      intro hdir
      unfold kLast at hq; rw [← hp_] at hq
      rw [if_pos hz] at hq
      rw [cif_t (show ¬ iDir p_.1.2.1 p_.2 from hdir)] at hq
      rw [kI_xu (c := 3) rfl]
      exact hq.2 (show ¬ (-4 : Int32) = 0 by decide) _ hU1
  · skip
    intro hz w1 hU1
    unfold kLast at hq; rw [← hp_] at hq
    rw [if_neg hz] at hq
    exact hq.2 hz _ hU1
