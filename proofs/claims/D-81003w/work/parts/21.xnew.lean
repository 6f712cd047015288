set_option maxRecDepth 100000
def xT.add (T : xT) (c i m s : Nat) : xT := (fun c' i' => (c' = c ∧ i' = i) ∨ T.lv c' i', fun c' i' => if c' = c ∧ i' = i then m else T.len c' i', T.ad, T.nc + 1, T.ns + s)
section XW
variable {G : xG} {M : xM} {n a b : Nat} {Q : Outcome → xS → Prop} {z z' : xS} {pc : Nat} {L : List (Nat × Value)} {st : List Value} {H H1 : Heap} {c i k tg kd m sl idx : Nat} {I : xI} {J : xJ} {R Z : xR} {T : xT} {ty : FieldType}
theorem xT.add_lv {c' i' : Nat} (h : T.lv c' i') : (T.add c i m sl).lv c' i' := Or.inr h
theorem xT.add_new : (T.add c i m sl).lv c i := Or.inl ⟨rfl, rfl⟩
theorem xT.add_len : (T.add c i m sl).len c i = m := by simp [xT.add, xT.len]
theorem xT.add_len_n {c' i' : Nat} (h : ¬ (c' = c ∧ i' = i)) : (T.add c i m sl).len c' i' = T.len c' i' := by simp only [xT.add, xT.len, if_neg h]
theorem xH.fresh (hH : xH G z H) (had : z.T.ad c i = G.n0 + z.T.nc) {c' i' : Nat} (hl : z.T.lv c' i') : ¬ (c' = c ∧ i' = i) := by
  rintro ⟨rfl, rfl⟩
  have h1 := hH.lt hl
  rw [hH.1] at h1
  omega
theorem xv_new {c' i' k : Nat} (h : ¬ (c' = c ∧ i' = i)) : xv (xur I c i (fun _ => 0), xur J c i (fun _ => 0), xur R c i (fun _ => none), xur Z c i (fun _ => none), T.add c i m sl) c' i' k = xv (I, J, R, Z, T) c' i' k := by
  show xvOf _ _ (xur I c i (fun _ => 0) c' i' k) (xur J c i (fun _ => 0) c' i' k) (xur R c i (fun _ => none) c' i' k) (xur Z c i (fun _ => none) c' i' k) = _
  rw [xur_n h, xur_n h, xur_n h, xur_n h]; rfl
theorem xH.add (hH : xH G (I, J, R, Z, T) H) (hz : H1.size = H.size + 1) (ho : ∀ q : Nat, q < H.size → H1[q]? = H[q]?) (had : T.ad c i = G.n0 + T.nc) (h1 : T.nc + 1 ≤ 899237) (h2 : T.ns + sl ≤ 6392848)
    (hat : xAt G (xur I c i (fun _ => 0), xur J c i (fun _ => 0), xur R c i (fun _ => none), xur Z c i (fun _ => none), T.add c i m sl) H1 c i) : xH G (xur I c i (fun _ => 0), xur J c i (fun _ => 0), xur R c i (fun _ => none), xur Z c i (fun _ => none), T.add c i m sl) H1 := by
  have hfr : ∀ {c' i' : Nat}, T.lv c' i' → ¬ (c' = c ∧ i' = i) := fun hl => hH.fresh (z := (I, J, R, Z, T)) had hl
  obtain ⟨g1, g2, ⟨g3, g4, g5⟩, g6, g7⟩ := id hH
  refine ⟨by rw [hz, g1]; show G.n0 + T.nc + 1 = G.n0 + (T.nc + 1); rfl, fun c' i' hl => ?_, ⟨fun c1 i1 c2 i2 l1 l2 e => ?_, fun c' i' k j hl hi hr => ?_, fun c' i' k hl hc hk => ?_⟩, fun q hq => ?_, h1, h2⟩
  · by_cases e : c' = c ∧ i' = i
    · obtain ⟨rfl, rfl⟩ := e
      exact ⟨fun _ => by show G.n0 ≤ T.ad c' i'; omega, hat⟩
    · have hl' : T.lv c' i' := by rcases hl with h | h; exact absurd h e; exact h
      refine ⟨(g2 c' i' hl').1, ?_⟩
      obtain ⟨q1, q2⟩ := (g2 c' i' hl').2
      have hlt := hH.lt (z := (I, J, R, Z, T)) hl'
      refine ⟨fun h => ?_, fun h => ?_⟩
      · obtain ⟨r, hr, hob⟩ := q1 h
        exact ⟨r, hr, (hob.kept (ho _ hlt)).to fun k' _ => (xv_new e).symm⟩
      · show H1[T.ad c' i']? = _
        rw [ho _ hlt]
        refine (q2 h).trans ?_
        rw [show (T.add c i m sl).len c' i' = T.len c' i' from xT.add_len_n e]
        congr 2
        funext j
        exact (xv_new e).symm
  · have key : ∀ {c1 i1 c2 i2 : Nat}, (c1 = c ∧ i1 = i) → T.lv c2 i2 → T.ad c1 i1 = T.ad c2 i2 → c1 = c2 ∧ i1 = i2 := by
      rintro c1 i1 c2 i2 ⟨rfl, rfl⟩ l2 e
      have := hH.lt (z := (I, J, R, Z, T)) l2
      have : T.ad c2 i2 < H.size := this
      rw [g1] at this
      have : T.ad c2 i2 < G.n0 + T.nc := this
      omega
    rcases l1 with l1 | l1 <;> rcases l2 with l2 | l2
    · exact ⟨l1.1.trans l2.1.symm, l1.2.trans l2.2.symm⟩
    · exact key l1 l2 e
    · have := key l2 l1 e.symm; exact ⟨this.1.symm, this.2.symm⟩
    · exact g3 _ _ _ _ l1 l2 e
  · by_cases e : c' = c ∧ i' = i
    · obtain ⟨rfl, rfl⟩ := e
      simp only [xrf, xS.R, xS.Z, xur_eq] at hr
      split at hr
      · cases hr
      · split at hr <;> cases hr
    · have hl' : T.lv c' i' := by rcases hl with h | h; exact absurd h e; exact h
      refine Or.inr (g4 c' i' k j hl' ?_ ?_)
      · simp only [xIn] at hi ⊢
        split
        · next h => rw [if_pos h] at hi; exact hi
        · next h => rw [if_neg h] at hi; have := hi; rw [show (xS.T (xur I c i (fun _ => 0), xur J c i (fun _ => 0), xur R c i (fun _ => none), xur Z c i (fun _ => none), T.add c i m sl)).len c' i' = T.len c' i' from xT.add_len_n e] at this; exact this
      · simp only [xrf, xS.R, xS.Z, xur_n e] at hr ⊢
        exact hr
  · by_cases e : c' = c ∧ i' = i
    · obtain ⟨rfl, rfl⟩ := e
      simp only [xS.I, xur_eq]
      exact ⟨fun _ => rfl, fun _ => Or.inl trivial⟩
    · have hl' : T.lv c' i' := by rcases hl with h | h; exact absurd h e; exact h
      simp only [xS.I, xur_n e]
      refine g5 c' i' k hl' hc ?_
      have := hk
      rw [show (xS.T (xur I c i (fun _ => 0), xur J c i (fun _ => 0), xur R c i (fun _ => none), xur Z c i (fun _ => none), T.add c i m sl)).len c' i' = T.len c' i' from xT.add_len_n e] at this
      exact this
  · rw [ho q (by rw [g1]; omega)]
    exact g6 q hq
/-- newarray of a primitive type -/
theorem x_newa {at_ : ArrayType} (q : Nat) (c i : Nat) (hd : decode M.cc pc = .ok (.newarray at_, 2)) (hq : pc + 2 = q) (hw : Cond.arrayClass (newarray.typeOf at_) ∈ lw_all) (har : xAr c (newarray.typeOf at_) kd tg) (hkd : (kd = 0 ∧ defaultValue (newarray.typeOf at_) = .int 0) ∨ (kd = 1 ∧ defaultValue (newarray.typeOf at_) = .long 0)) (h31 : m < 60000000) (hcb : componentBytes (newarray.typeOf at_) ≤ 8) (had : T.ad c i = G.n0 + T.nc) (hc : T.nc + 1 ≤ 899237) (hs : T.ns + m ≤ 6392848)
    (kk : X G M n a b Q (xur I c i (fun _ => 0), xur J c i (fun _ => 0), xur R c i (fun _ => none), xur Z c i (fun _ => none), T.add c i m m) q L (.ref (T.ad c i) :: st)) : X G M n a b Q (I, J, R, Z, T) pc L (.int (nI m) :: st) := by
  subst hq
  intro p e R' s me args below meth c0 hC H locs ls hH h1 h2 hl hL
  have hroom := hC.2.2.2.2.2.2.2.2.2.1
  have hsz : H.size = T.ad c i := by rw [had]; exact hH.1
  have g1 : a ≤ T.nc := h1
  have g2 : b ≤ T.ns := h2
  refine va_newaK hC.xx hC.bb (hC.ww _ hw) rfl hd rfl (nI_pos (by omega)) (nI_clamp (n := m) (by omega)) (by
      have : m * componentBytes (newarray.typeOf at_) ≤ m * 8 := Nat.mul_le_mul_left _ hcb
      omega) (by show T.nc - a + 1 ≤ _; omega) (by show T.ns - b + m ≤ _; omega) hsz fun H1 cA e1 z1 o1 hAr hNm => ?_
  have hra := (hC.kk.2 _ _ (xTys_at har.2.1)).2
  rw [har.2.2.1] at hra
  have hcA : G.dA (xta c) = cA := by
    have hra' : s.vm.findClass ("[" ++ (newarray.typeOf at_).toString) = some (G.dA (xta c)) := by cases at_ <;> exact hra
    exact Option.some.inj (hra'.symm.trans hNm)
  have hH1 := hH.add (c := c) (i := i) (m := m) (sl := m) (by rw [z1, hsz]) (fun q hq => o1 q (by rw [← hsz]; exact hq)) had hc hs ⟨fun h => absurd h har.1, fun _ => by
    show H1[T.ad c i]? = some (arrV (G.dA (xta c)) ((T.add c i m m).len c i) _)
    rw [e1, xT.add_len, hcA]
    congr 2
    funext j
    have hf : xfk c j = kd := har.2.2.2.1 j
    rcases hkd with ⟨rfl, hd0⟩ | ⟨rfl, hd0⟩
    · rw [hd0, xv_i hf]; show _ = Value.int (xur I c i (fun _ => 0) c i j); rw [xur_eq]
    · rw [hd0, xv_j hf]; show _ = Value.long (xur J c i (fun _ => 0) c i j); rw [xur_eq]⟩
  have K := kk p e R' s me args below meth c0 hC H1 locs ls hH1 (by show a ≤ T.nc + 1; omega) (by show b ≤ T.ns + m; omega) hl hL
  have e3 : (T.nc + 1) - a = T.nc - a + 1 := by omega
  have e4 : (T.ns + m) - b = T.ns - b + m := by omega
  have K' : W p G.l e R' s me args below meth c0 H1 locs ((T.nc + 1) - a) ((T.ns + m) - b) (xQ G a b Q below s) (F0 me (pc + 2) ls (.ref (T.ad c i) :: st)) := K
  rw [e3, e4] at K'
  exact K'
theorem x_nmT {T1 : xT} (k : ∀ T', T' = T1 → X G M n a b Q (I, J, R, Z, T') pc L st) : X G M n a b Q (I, J, R, Z, T1) pc L st := k T1 rfl
/-- new of a class whose fields are all known -/
theorem x_new {C : String} {Tb : u_T} {N : Nat} {tys : Nat → FieldType} (q : Nat) (c i : Nat) (hd : decode M.cc pc = .ok (.new idx, 3)) (hq : pc + 3 = q) (hcl : Cond.classLink M.y.cls idx C ∈ lw_all) (hin : Cond.instantiable C m ∈ lw_all) (hini : Cond.initialized C ∈ lw_all) (hvw : vwCl[c]? = some (C, Tb, N)) (hws : ∀ w ∈ u_ws C Tb N, w ∈ lw_all) (hty : ∀ k, k < N → parseFieldDescriptor (Tb k).2.2.1 = some (tys k)) (hc20 : c < 20)
    (hdf : ∀ k, k < N → (xfk c k = 0 ∧ defaultValue (tys k) = .int 0) ∨ (xfk c k = 1 ∧ defaultValue (tys k) = .long 0) ∨ (2 ≤ xfk c k ∧ defaultValue (tys k) = .null)) (had : T.ad c i = G.n0 + T.nc) (hc : T.nc + 1 ≤ 899237) (hs : T.ns + m ≤ 6392848)
    (kk : X G M n a b Q (xur I c i (fun _ => 0), xur J c i (fun _ => 0), xur R c i (fun _ => none), xur Z c i (fun _ => none), T.add c i 0 m) q L (.ref (T.ad c i) :: st)) : X G M n a b Q (I, J, R, Z, T) pc L st := by
  subst hq
  intro p e R' s me args below meth c0 hC H locs ls hH h1 h2 hl hL
  have hroom := hC.2.2.2.2.2.2.2.2.2.1
  have hsz : H.size = T.ad c i := by rw [had]; exact hH.1
  have g1 : a ≤ T.nc := h1
  have g2 : b ≤ T.ns := h2
  have hKn := hC.kk.1 c _ hvw
  refine W.newcK hC.xx hC.bb hC.own (hC.ww _ hcl) (hC.ww _ hin) (hC.ww _ hini) rfl hd (by show T.nc - a + 1 ≤ _; omega) (by show T.ns - b + m ≤ _; omega) hKn.2.1 hsz fun H1 kC hkC e1 z1 o1 => ?_
  have hH1 := hH.add (c := c) (i := i) (m := 0) (sl := m) (by rw [z1, hsz]) (fun q hq => o1 q (by rw [← hsz]; exact hq)) had hc hs ⟨fun _ => ⟨_, hvw, by
    refine (u_born tys hC.ww hws hKn hkC e1 hty).to fun j hj => ?_
    show defaultValue (tys j) = xv _ c i j
    rcases hdf j hj with ⟨hf, hd0⟩ | ⟨hf, hd0⟩ | ⟨hf, hd0⟩
    · rw [hd0, xv_i hf]; show _ = Value.int (xur I c i (fun _ => 0) c i j); rw [xur_eq]
    · rw [hd0, xv_j hf]; show _ = Value.long (xur J c i (fun _ => 0) c i j); rw [xur_eq]
    · rw [hd0]
      show _ = xvOf (xfk c j) _ (xur I c i (fun _ => 0) c i j) (xur J c i (fun _ => 0) c i j) (xur R c i (fun _ => none) c i j) (xur Z c i (fun _ => none) c i j)
      rw [xur_eq, xur_eq, xur_eq, xur_eq]
      match h : xfk c j, hf with
      | 2, _ => rfl
      | k + 3, _ => rfl⟩, fun h => absurd hc20 h⟩
  have K := kk p e R' s me args below meth c0 hC H1 locs ls hH1 (by show a ≤ T.nc + 1; omega) (by show b ≤ T.ns + m; omega) hl hL
  have e3 : (T.nc + 1) - a = T.nc - a + 1 := by omega
  have e4 : (T.ns + m) - b = T.ns - b + m := by omega
  have K' : W p G.l e R' s me args below meth c0 H1 locs ((T.nc + 1) - a) ((T.ns + m) - b) (xQ G a b Q below s) (F0 me (pc + 3) ls (.ref (T.ad c i) :: st)) := K
  rw [e3, e4] at K'
  exact K'
end XW
theorem KS.add {Z : xR} {T : xT} {N B c i m sl : Nat} (h : KS Z T N B) (hc : kcnt N c = 0) : KS (xur Z c i (fun _ => none)) (T.add c i m sl) N B := by
  have hz : ∀ c' i' k, i' < kcnt N c' → xur Z c i (fun _ => none) c' i' k = Z c' i' k := fun c' i' k h' => xur_c (fun e => by rw [e, hc] at h'; omega)
  have h2 : ∀ c' i' : Nat, i' < kcnt N c' → ¬ (c' = c ∧ i' = i) := fun c' i' h' e => by rw [e.1, hc] at h'; omega
  exact ⟨h.1, fun c' i' h' => Or.inr (h.2.1 c' i' h'), fun c' i' h' h20 => (xT.add_len_n (h2 c' i' h')).trans (h.2.2.1 c' i' h' h20), fun i hi => (hz 0 i 0 hi).trans (h.z0_0 hi), fun i hi => (hz 0 i 1 hi).trans (h.z0_1 hi), fun i hi => (hz 0 i 2 hi).trans (h.z0_2 hi), fun i hi => (hz 0 i 3 hi).trans (h.z0_3 hi), fun i hi => (hz 0 i 4 hi).trans (h.z0_4 hi), fun i hi => (hz 0 i 5 hi).trans (h.z0_5 hi), fun i hi => (hz 0 i 6 hi).trans (h.z0_6 hi), fun i hi => (hz 0 i 7 hi).trans (h.z0_7 hi), fun i hi => (hz 0 i 8 hi).trans (h.z0_8 hi), fun i hi => (hz 0 i 9 hi).trans (h.z0_9 hi), fun i hi => (hz 0 i 10 hi).trans (h.z0_10 hi), fun i hi => (hz 0 i 11 hi).trans (h.z0_11 hi), fun i hi => (hz 0 i 13 hi).trans (h.z0_13 hi), fun i hi => (hz 0 i 20 hi).trans (h.z0_20 hi), fun i hi => (hz 0 i 23 hi).trans (h.z0_23 hi), fun i hi => (hz 0 i 24 hi).trans (h.z0_24 hi), fun i hi => (hz 1 i 0 hi).trans (h.z1_0 hi), fun i hi => (hz 4 i 0 hi).trans (h.z4_0 hi), fun i hi => (hz 4 i 1 hi).trans (h.z4_1 hi), fun i hi => (hz 4 i 4 hi).trans (h.z4_4 hi), fun i hi => (hz 5 i 3 hi).trans (h.z5_3 hi), fun i hi => (hz 6 i 5 hi).trans (h.z6_5 hi), fun i hi => (hz 6 i 9 hi).trans (h.z6_9 hi), fun i hi => (hz 6 i 16 hi).trans (h.z6_16 hi), fun i hi => (hz 6 i 23 hi).trans (h.z6_23 hi), fun i hi => (hz 6 i 26 hi).trans (h.z6_26 hi), fun i hi => (hz 6 i 27 hi).trans (h.z6_27 hi), fun i hi => (hz 6 i 28 hi).trans (h.z6_28 hi), fun i hi => (hz 6 i 29 hi).trans (h.z6_29 hi), fun i hi => (hz 8 i 0 hi).trans (h.z8_0 hi), fun i hi => (hz 8 i 2 hi).trans (h.z8_2 hi), fun i hi => (hz 9 i 4 hi).trans (h.z9_4 hi), fun i hi => (hz 9 i 13 hi).trans (h.z9_13 hi), fun i hi => (hz 9 i 15 hi).trans (h.z9_15 hi), fun j hj => (hz 23 0 j Nat.zero_lt_one).trans (h.z23 hj), fun j hj => (hz 24 0 j Nat.zero_lt_one).trans (h.z24 hj), fun j hj => (hz 25 0 j Nat.zero_lt_one).trans (h.z25 hj), fun j hj => (hz 26 0 j Nat.zero_lt_one).trans (h.z26 hj)⟩
