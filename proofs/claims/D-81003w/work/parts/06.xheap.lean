set_option maxRecDepth 100000
def xu {α : Type} (f : Nat → Nat → Nat → α) (c i k : Nat) (v : α) : Nat → Nat → Nat → α := fun c' i' k' => if c' = c ∧ i' = i ∧ k' = k then v else f c' i' k'
theorem xu_eq {α : Type} {f : Nat → Nat → Nat → α} {c i k : Nat} {v : α} : xu f c i k v c i k = v := by simp [xu]
theorem xu_c {α : Type} {f : Nat → Nat → Nat → α} {c i k c' i' k' : Nat} {v : α} (h : c' ≠ c) : xu f c i k v c' i' k' = f c' i' k' := by simp [xu, h]
theorem xu_i {α : Type} {f : Nat → Nat → Nat → α} {c i k c' i' k' : Nat} {v : α} (h : i' ≠ i) : xu f c i k v c' i' k' = f c' i' k' := by simp [xu, h]
theorem xu_k {α : Type} {f : Nat → Nat → Nat → α} {c i k c' i' k' : Nat} {v : α} (h : k' ≠ k) : xu f c i k v c' i' k' = f c' i' k' := by simp [xu, h]
theorem xu_n {α : Type} {f : Nat → Nat → Nat → α} {c i k c' i' k' : Nat} {v : α} (h : ¬ (c' = c ∧ i' = i ∧ k' = k)) : xu f c i k v c' i' k' = f c' i' k' := by simp only [xu, if_neg h]
def xur {α : Type} (f : Nat → Nat → Nat → α) (c i : Nat) (g : Nat → α) : Nat → Nat → Nat → α := fun c' i' k' => if c' = c ∧ i' = i then g k' else f c' i' k'
theorem xur_eq {α : Type} {f : Nat → Nat → Nat → α} {c i k : Nat} {g : Nat → α} : xur f c i g c i k = g k := by simp [xur]
theorem xur_c {α : Type} {f : Nat → Nat → Nat → α} {c i c' i' k' : Nat} {g : Nat → α} (h : c' ≠ c) : xur f c i g c' i' k' = f c' i' k' := by simp [xur, h]
theorem xur_i {α : Type} {f : Nat → Nat → Nat → α} {c i c' i' k' : Nat} {g : Nat → α} (h : i' ≠ i) : xur f c i g c' i' k' = f c' i' k' := by simp [xur, h]
theorem xur_n {α : Type} {f : Nat → Nat → Nat → α} {c i c' i' k' : Nat} {g : Nat → α} (h : ¬ (c' = c ∧ i' = i)) : xur f c i g c' i' k' = f c' i' k' := by simp only [xur, if_neg h]
/-- a field of class c, number k, by the entry idx of the class own: type, final, kind, target -/
def xFl (own : String) (idx c k : Nat) (ty : FieldType) (fin : Bool) (kd tg : Nat) : Prop :=
  ∃ (C : String) (Tb : u_T) (N : Nat) (tys : Nat → FieldType), vwCl[c]? = some (C, Tb, N) ∧ (∀ w ∈ u_ws C Tb N, w ∈ lw_all) ∧ (∀ k, k < N → parseFieldDescriptor (Tb k).2.2.1 = some (tys k)) ∧ (∀ a, a < N → ∀ b, b < N → a ≠ b → (Tb a).2.1 ≠ (Tb b).2.1) ∧
    k < N ∧ c < 20 ∧ (Cond.fieldLink own idx (Tb k).1 (Tb k).2.1 (Tb k).2.2.1 ∈ lw_all ∨ ∃ host, Cond.fieldLinkNest own idx (Tb k).1 (Tb k).2.1 (Tb k).2.2.1 host ∈ xNw) ∧
    parseFieldDescriptor (Tb k).2.2.1 = some ty ∧ (Tb k).2.2.2 = fin ∧ xfk c k = kd ∧ xtg c k = tg ∧ (Tb k).1 = C
section XH
variable {G : xG} {M : xM} {n a b : Nat} {Q : Outcome → xS → Prop} {z z' : xS} {pc : Nat} {L L' : List (Nat × Value)} {st st' : List Value} {H H1 : Heap} {c i k : Nat} {I : xI} {J : xJ} {R Z : xR} {T : xT}
theorem xv_i (h : xfk c k = 0) : xv z c i k = .int (z.I c i k) := by unfold xv; rw [h]; rfl
theorem xv_j (h : xfk c k = 1) : xv z c i k = .long (z.J c i k) := by unfold xv; rw [h]; rfl
theorem xv_r (h : xfk c k = 2) : xv z c i k = va_re (z.T.ad (xtg c k)) (z.R c i k) := by unfold xv; rw [h]; rfl
theorem xv_z (h : xfk c k = 3) : xv z c i k = va_re (z.T.ad (xtg c k)) (z.Z c i k) := by unfold xv; rw [h]; rfl
theorem xH.upd (hH : xH G z H) (hlv : z.T.lv c i) (h50 : c ≠ 50) (hz : H1.size = H.size) (ho : ∀ q : Nat, q ≠ z.T.ad c i → H1[q]? = H[q]?) (hT : z'.T = z.T)
    (hv : ∀ c' i' k', ¬ (c' = c ∧ i' = i) → xv z' c' i' k' = xv z c' i' k') (hat : xAt G z' H1 c i) (hwf : xWf z') : xH G z' H1 := by
  obtain ⟨hs, hc, hw, ho0, hcn⟩ := hH
  refine ⟨by rw [hz, hT]; exact hs, fun c' i' hl => ?_, hwf, fun q hq => ?_, by rw [hT]; exact hcn⟩
  · rw [hT] at hl
    refine ⟨by rw [hT]; exact (hc c' i' hl).1, ?_⟩
    by_cases e : c' = c ∧ i' = i
    · obtain ⟨rfl, rfl⟩ := e
      exact hat
    · have hne : z.T.ad c' i' ≠ z.T.ad c i := fun q => e (hw.1 _ _ _ _ hl hlv q)
      obtain ⟨h1, h2⟩ := (hc c' i' hl).2
      refine ⟨fun hlt => ?_, fun hlt => ?_⟩
      · obtain ⟨r, hr, hob⟩ := h1 hlt
        rw [hT]
        refine ⟨r, hr, (hob.kept (ho _ hne)).to fun k' _ => (hv c' i' k' e).symm⟩
      · rw [hT, ho _ hne, h2 hlt]
        congr 2
        funext j
        exact (hv c' i' j e).symm
  · rw [ho q (fun e => ?_)]
    · exact ho0 q hq
    · have := (hc c i hlv).1 h50
      omega
theorem xH.lt (hH : xH G z H) (hlv : z.T.lv c i) : z.T.ad c i < H.size := by
  obtain ⟨h1, h2⟩ := (hH.2.1 c i hlv).2
  by_cases hlt : c < 20
  · obtain ⟨r, hr, cell, q1, -⟩ := h1 hlt
    exact (Array.getElem?_eq_some_iff.mp q1).1
  · exact (Array.getElem?_eq_some_iff.mp (h2 hlt)).1
theorem x_getf {idx kd tg : Nat} {ty : FieldType} {fin : Bool} (q : Nat) (hd : decode M.cc pc = .ok (.getfield idx, 3)) (hq : pc + 3 = q) (hf : xFl M.y.cls idx c k ty fin kd tg) (hlv : z.T.lv c i)
    (kk : X G M n a b Q z q L (xv z c i k :: st)) : X G M n a b Q z pc L (.ref (z.T.ad c i) :: st) := by
  subst hq
  refine X.one _ (fun {p e R s m args below meth c0 H locs cells slots Qw ls} hC hH _ kk => ?_) kk
  obtain ⟨C, Tb, N, tys, hc, hin, hty, hnm, hk, hc20, hlk, hd', hfin, hkd, htg, -⟩ := hf
  obtain ⟨r, hr, cell, q1, q2, q3, q4⟩ := (hH.2.1 c i hlv).2.1 hc20
  have hr : r = (C, Tb, N) := Option.some.inj (hr.symm.trans hc)
  subst hr
  obtain ⟨hS, hfc, kC, hkC, hkind⟩ := hC.kk.1 c _ hc
  obtain ⟨cf, kf, fi, f, hi, hsl⟩ := hS k hk
  have hst := (u_facts hfc hkC (u_lays hC.ww hin hk) hi).1
  have hv : cell.slots[f.slot]? = some (xv z c i k) := by rw [hsl]; exact q4 k hk
  rcases hlk with hlk | ⟨host, hlk⟩
  · exact W.getf hC.xx hC.bb hC.own (hC.ww _ hlk) hi hst q1 (by rw [q3]; exact fun h => by cases h) hv rfl rfl hd kk
  · exact va_Wgetf hC.xx hC.bb hC.own (va_Nw.use rfl (hC.nw _ hlk)) hi hst q1 (by rw [q3]; exact fun h => by cases h) hv rfl rfl hd kk
theorem x_geti {idx tg : Nat} {ty : FieldType} {fin : Bool} (q : Nat) (hd : decode M.cc pc = .ok (.getfield idx, 3)) (hq : pc + 3 = q) (hf : xFl M.y.cls idx c k ty fin 0 tg) (hlv : T.lv c i)
    (kk : X G M n a b Q (I, J, R, Z, T) q L (.int (I c i k) :: st)) : X G M n a b Q (I, J, R, Z, T) pc L (.ref (T.ad c i) :: st) := by
  refine x_getf (z := (I, J, R, Z, T)) q hd hq hf hlv ?_
  obtain ⟨_, _, _, _, _, _, _, _, _, _, _, _, _, hkd, _⟩ := hf
  rw [xv_i hkd]; exact kk
theorem x_getj {idx tg : Nat} {ty : FieldType} {fin : Bool} (q : Nat) (hd : decode M.cc pc = .ok (.getfield idx, 3)) (hq : pc + 3 = q) (hf : xFl M.y.cls idx c k ty fin 1 tg) (hlv : T.lv c i)
    (kk : X G M n a b Q (I, J, R, Z, T) q L (.long (J c i k) :: st)) : X G M n a b Q (I, J, R, Z, T) pc L (.ref (T.ad c i) :: st) := by
  refine x_getf (z := (I, J, R, Z, T)) q hd hq hf hlv ?_
  obtain ⟨_, _, _, _, _, _, _, _, _, _, _, _, _, hkd, _⟩ := hf
  rw [xv_j hkd]; exact kk
/-- a dynamic reference, maybe null -/
theorem x_getr {idx tg : Nat} {ty : FieldType} {fin : Bool} (q : Nat) (hd : decode M.cc pc = .ok (.getfield idx, 3)) (hq : pc + 3 = q) (hf : xFl M.y.cls idx c k ty fin 2 tg) (hlv : T.lv c i)
    (kk : X G M n a b Q (I, J, R, Z, T) q L (va_re (T.ad tg) (R c i k) :: st)) : X G M n a b Q (I, J, R, Z, T) pc L (.ref (T.ad c i) :: st) := by
  refine x_getf (z := (I, J, R, Z, T)) q hd hq hf hlv ?_
  obtain ⟨_, _, _, _, _, _, _, _, _, _, _, _, _, hkd, htg, _⟩ := hf
  rw [xv_r hkd, htg]; exact kk
/-- a dynamic reference that is there -/
theorem x_gets {idx tg j : Nat} {ty : FieldType} {fin : Bool} (q : Nat) (hd : decode M.cc pc = .ok (.getfield idx, 3)) (hq : pc + 3 = q) (hf : xFl M.y.cls idx c k ty fin 2 tg) (hlv : T.lv c i) (hr : R c i k = some j)
    (kk : X G M n a b Q (I, J, R, Z, T) q L (.ref (T.ad tg j) :: st)) : X G M n a b Q (I, J, R, Z, T) pc L (.ref (T.ad c i) :: st) := by
  refine x_getr q hd hq hf hlv ?_
  rw [hr]; exact kk
/-- a static reference -/
theorem x_getz {idx tg j : Nat} {ty : FieldType} {fin : Bool} (q : Nat) (hd : decode M.cc pc = .ok (.getfield idx, 3)) (hq : pc + 3 = q) (hf : xFl M.y.cls idx c k ty fin 3 tg) (hlv : T.lv c i) (hr : Z c i k = some j)
    (kk : X G M n a b Q (I, J, R, Z, T) q L (.ref (T.ad tg j) :: st)) : X G M n a b Q (I, J, R, Z, T) pc L (.ref (T.ad c i) :: st) := by
  refine x_getf (z := (I, J, R, Z, T)) q hd hq hf hlv ?_
  obtain ⟨_, _, _, _, _, _, _, _, _, _, _, _, _, hkd, htg, _⟩ := hf
  rw [xv_z hkd, htg]
  show X G M n a b Q (I, J, R, Z, T) q L (va_re (T.ad tg) (Z c i k) :: st)
  rw [hr]; exact kk
theorem xLs.loc {x : Addr} {s : Nat} {locs : List Loc} (h : ∀ q ∈ locs, G.n0 ≤ q.base) (hx : G.n0 ≤ x) : ∀ q ∈ locs ++ [(⟨x, s⟩ : Loc)], G.n0 ≤ q.base := by
  intro q hq
  rcases List.mem_append.mp hq with h1 | h1
  · exact h q h1
  · rw [List.mem_singleton.mp h1]; exact hx
/-- putfield, in general -/
theorem x_putf {idx kd tg : Nat} {ty : FieldType} {fin : Bool} {v : Value} (q : Nat) (hd : decode M.cc pc = .ok (.putfield idx, 3)) (hq : pc + 3 = q) (hf : xFl M.y.cls idx c k ty fin kd tg) (hfin : fin = false ∨ (M.y.name = "<init>" ∧ (vwCl[c]?).map (fun r => r.1) = some M.y.cls))
    (hn : narrow ty v = v) (hfit : fits ty v = true) (hlv : z.T.lv c i) (hT : z'.T = z.T) (hv : xv z' c i k = v) (ho : ∀ c' i' k', ¬ (c' = c ∧ i' = i ∧ k' = k) → xv z' c' i' k' = xv z c' i' k') (hwf : xWf z → xWf z')
    (kk : X G M n a b Q z' q L st) : X G M n a b Q z pc L (v :: .ref (z.T.ad c i) :: st) := by
  subst hq
  intro p e R s m args below meth c0 hC H locs ls hH h1 h2 hl hL
  obtain ⟨C, Tb, N, tys, hc, hin, hty, hnm, hk, hc20, hlk, hd', hfi, hkd, htg, hde⟩ := hf
  have hap := va_apart (own := M.y.cls) hC.ww hin tys hty hnm hC.kk hc
  obtain ⟨r, hr, cell, q1, q2, q3, q4⟩ := (hH.2.1 c i hlv).2.1 hc20
  have hr : r = (C, Tb, N) := Option.some.inj (hr.symm.trans hc)
  subst hr
  obtain ⟨hS, hfc, kC, hkC, hkind⟩ := hC.kk.1 c _ hc
  obtain ⟨cf, kf, fi, f, hi, hsl⟩ := hS k hk
  have hst := (u_facts hfc hkC (u_lays hC.ww hin hk) hi).1
  have h50 : c ≠ 50 := by omega
  have hbase := (hH.2.1 c i hlv).1 h50
  have fin' : ∀ H' : Heap, H'[z.T.ad c i]? = some (cell.setSlot f.slot v) → H'.size = H.size → (∀ q : Nat, q ≠ z.T.ad c i → H'[q]? = H[q]?) → xH G z' H' := by
    intro H' e1 e2 e3
    refine hH.upd hlv h50 e2 e3 hT (fun c' i' k' h => ho c' i' k' (fun g => h ⟨g.1, g.2.1⟩)) ⟨fun _ => ⟨_, hc, ?_⟩, fun h => absurd hc20 h⟩ (hwf hH.2.2.1)
    rw [hT]
    rw [hsl] at e1
    refine t_OB.to (V := updV (fun k => xv z c i k) k v) ⟨_, e1, q2, q3, t_set q4 hap hk v⟩ (fun j _ => ?_)
    by_cases hj : j = k
    · subst hj; simp [updV, hv]
    · simp only [updV, if_neg hj]; exact (ho c i j (fun g => hj g.2.2)).symm
  have hT' : z'.T.nc = z.T.nc ∧ z'.T.ns = z.T.ns := by rw [hT]; exact ⟨rfl, rfl⟩
  have go : ∀ (H' : Heap) (locs' : List Loc), xH G z' H' → (∀ q ∈ locs', G.n0 ≤ q.base) → W p G.l e R s m args below meth c0 H' locs' (z.T.nc - a) (z.T.ns - b) (xQ G a b Q below s) (F0 m (pc + 3) ls st) := by
    intro H' locs' hH' hl'
    have := kk p e R s m args below meth c0 hC H' locs' ls hH' (by rw [hT'.1]; exact h1) (by rw [hT'.2]; exact h2) hl' hL
    rw [hT'.1, hT'.2] at this
    exact this
  rcases hfin with hfin | ⟨hini, hown⟩
  · rw [hfin] at hfi
    have hlay := hC.ww _ (hin _ (u_in_lay hk))
    unfold u_lay at hlay
    rw [if_neg (by rw [hfi]; decide)] at hlay
    have h6 := u_store hfc hkC hkind hlay hi hd' hn hfit
    rcases hlk with hlk | ⟨host, hlk⟩
    · refine W.putK hC.xx hC.bb (f := f) ⟨hC.own, hC.ww _ hlk, ⟨_, _, _, hi⟩, hst⟩ (by rw [q2]; exact h6) q1 q3 (by rw [hsl]; exact k2_hasslot (q4 k hk)) rfl rfl hd fun H' e1 e2 e3 => ?_
      exact go H' _ (fin' H' e1 e2 e3) (xLs.loc hl hbase)
    · refine va_WputK hC.xx hC.bb (f := f) hC.own (va_Nw.use rfl (hC.nw _ hlk)) hi hst (by rw [q2]; exact h6) q1 q3 (by rw [hsl]; exact k2_hasslot (q4 k hk)) rfl rfl hd fun H' e1 e2 e3 => ?_
      exact go H' _ (fin' H' e1 e2 e3) (xLs.loc hl hbase)
  · rw [hc] at hown
    have hown : C = M.y.cls := Option.some.inj hown
    rcases hlk with hlk | ⟨host, hlk⟩
    · have hlay0 := hC.ww _ (hin _ (u_in_lay hk))
      unfold u_lay at hlay0
      by_cases hff : (Tb k).2.2.2 = true
      · rw [if_pos hff] at hlay0
        have hcf : m.cls = cf := by
          obtain ⟨_, _, c', _, _, _, -, -, hf', -, -, -, hown2, -⟩ := Cond.laysFinal_spec hlay0
          have e1 : c' = cf := by have := hi.symm.trans hf'; simp at this; exact this.1.symm
          rw [hde, hown] at hown2
          rw [← e1]; exact Option.some.inj (hC.own.symm.trans hown2)
        have h6 := u_fits hfc hkC hkind (Or.inr hlay0) hi hd' hn hfit
        refine W.putFinK hC.xx hC.bb hC.own (hC.ww _ hlk) hi hst hcf (hC.2.2.2.2.2.2.1.trans hini) (by rw [q2]; exact h6) q1 q3 (by rw [hsl]; exact k2_hasslot (q4 k hk)) rfl rfl hd fun H' e1 e2 e3 => ?_
        exact go H' _ (fin' H' e1 e2 e3) (xLs.loc hl hbase)
      · rw [if_neg hff] at hlay0
        have h6 := u_store hfc hkC hkind hlay0 hi hd' hn hfit
        refine W.putK hC.xx hC.bb (f := f) ⟨hC.own, hC.ww _ hlk, ⟨_, _, _, hi⟩, hst⟩ (by rw [q2]; exact h6) q1 q3 (by rw [hsl]; exact k2_hasslot (q4 k hk)) rfl rfl hd fun H' e1 e2 e3 => ?_
        exact go H' _ (fin' H' e1 e2 e3) (xLs.loc hl hbase)
    · have hlay0 := hC.ww _ (hin _ (u_in_lay hk))
      unfold u_lay at hlay0
      have hlt : f.slot < cell.slots.size := by rw [hsl]; exact k2_hasslot (q4 k hk)
      have hmem : ∀ w : Cell, (H.setIfInBounds (z.T.ad c i) w)[z.T.ad c i]? = some w ∧ (H.setIfInBounds (z.T.ad c i) w).size = H.size ∧ ∀ q : Nat, q ≠ z.T.ad c i → (H.setIfInBounds (z.T.ad c i) w)[q]? = H[q]? := fun w =>
        ⟨by simp [Array.getElem?_setIfInBounds, hH.lt hlv], by simp, fun q hq => by simp [Array.getElem?_setIfInBounds, Ne.symm hq]⟩
      by_cases hff : (Tb k).2.2.2 = true
      · rw [if_pos hff] at hlay0
        have hcf : m.cls = cf := by
          obtain ⟨_, _, c', _, _, _, -, -, hf', -, -, -, hown2, -⟩ := Cond.laysFinal_spec hlay0
          have e1 : c' = cf := by have := hi.symm.trans hf'; simp at this; exact this.1.symm
          rw [hde, hown] at hown2
          rw [← e1]; exact Option.some.inj (hC.own.symm.trans hown2)
        have h6 := u_fits hfc hkC hkind (Or.inr hlay0) hi hd' hn hfit
        refine va_Wputf hC.xx hC.bb hC.own (va_Nw.use rfl (hC.nw _ hlk)) hi hst (Or.inr ⟨hcf, hC.2.2.2.2.2.2.1.trans hini⟩) q1 (by rw [q3]; exact fun h => by cases h) hlt h6.1 (by rw [q3, q2]; exact h6.2) rfl rfl hd ?_
        exact go _ _ (fin' _ (hmem _).1 (hmem _).2.1 (hmem _).2.2) (xLs.loc hl hbase)
      · rw [if_neg hff] at hlay0
        have h6 := u_store hfc hkC hkind hlay0 hi hd' hn hfit
        refine va_WputK hC.xx hC.bb (f := f) hC.own (va_Nw.use rfl (hC.nw _ hlk)) hi hst (by rw [q2]; exact h6) q1 q3 hlt rfl rfl hd fun H' e1 e2 e3 => ?_
        exact go H' _ (fin' H' e1 e2 e3) (xLs.loc hl hbase)
theorem xWf.setJ (h : xWf (I, J, R, Z, T)) {J' : xJ} : xWf (I, J', R, Z, T) := ⟨h.1, fun c i k j hl hi hr => h.2.1 c i k j hl hi hr, h.2.2⟩
theorem xWf.uI (h : xWf (I, J, R, Z, T)) {v : Int32} (hv : ¬ c < 20 → (xta c = 2 → fits .byte (.int v) = true) ∧ (xta c = 3 → v = 0 ∨ v = 1)) : xWf (xu I c i k v, J, R, Z, T) := by
  refine ⟨h.1, fun c i k j hl hi hr => h.2.1 c i k j hl hi hr, fun c' i' k' hl hc hkl => ?_⟩
  by_cases e : c' = c ∧ i' = i ∧ k' = k
  · obtain ⟨rfl, rfl, rfl⟩ := e
    simp only [xS.I, xu_eq]
    exact hv hc
  · simp only [xS.I, xu_n e]
    exact h.2.2 c' i' k' hl hc hkl
theorem xv_uI {v : Int32} {c' i' k' : Nat} (h : ¬ (c' = c ∧ i' = i ∧ k' = k)) : xv (xu I c i k v, J, R, Z, T) c' i' k' = xv (I, J, R, Z, T) c' i' k' := by
  show xvOf _ _ (xu I c i k v c' i' k') _ _ _ = _
  rw [xu_n h]; rfl
theorem xv_uJ {v : Int64} {c' i' k' : Nat} (h : ¬ (c' = c ∧ i' = i ∧ k' = k)) : xv (I, xu J c i k v, R, Z, T) c' i' k' = xv (I, J, R, Z, T) c' i' k' := by
  show xvOf _ _ _ (xu J c i k v c' i' k') _ _ = _
  rw [xu_n h]; rfl
theorem xv_uR {v : Option Nat} {c' i' k' : Nat} (h : ¬ (c' = c ∧ i' = i ∧ k' = k)) : xv (I, J, xu R c i k v, Z, T) c' i' k' = xv (I, J, R, Z, T) c' i' k' := by
  show xvOf _ _ _ _ (xu R c i k v c' i' k') _ = _
  rw [xu_n h]; rfl
theorem xv_uZ {v : Option Nat} {c' i' k' : Nat} (h : ¬ (c' = c ∧ i' = i ∧ k' = k)) : xv (I, J, R, xu Z c i k v, T) c' i' k' = xv (I, J, R, Z, T) c' i' k' := by
  show xvOf _ _ _ _ _ (xu Z c i k v c' i' k') = _
  rw [xu_n h]; rfl
theorem xWf.setR (h : xWf (I, J, R, Z, T)) {v : Option Nat} (hv : ∀ j, v = some j → T.lv (xtg c k) j) : xWf (I, J, xu R c i k v, Z, T) := by
  refine ⟨h.1, fun c' i' k' j hl hi hr => ?_, h.2.2⟩
  by_cases e : c' = c ∧ i' = i ∧ k' = k
  · obtain ⟨rfl, rfl, rfl⟩ := e
    by_cases h2 : xfk c' k' = 2
    · refine hv j ?_
      simp only [xrf, if_pos h2, xS.R, xu_eq] at hr
      exact hr
    · refine h.2.1 c' i' k' j hl hi ?_
      simp only [xrf, if_neg h2] at hr ⊢
      exact hr
  · refine h.2.1 c' i' k' j hl hi ?_
    simp only [xrf, xS.R, xS.Z, xu_n e] at hr ⊢
    exact hr
theorem xWf.setZ (h : xWf (I, J, R, Z, T)) {v : Option Nat} (hv : ∀ j, v = some j → T.lv (xtg c k) j) : xWf (I, J, R, xu Z c i k v, T) := by
  refine ⟨h.1, fun c' i' k' j hl hi hr => ?_, h.2.2⟩
  by_cases e : c' = c ∧ i' = i ∧ k' = k
  · obtain ⟨rfl, rfl, rfl⟩ := e
    by_cases h2 : xfk c' k' = 2
    · refine h.2.1 c' i' k' j hl hi ?_
      simp only [xrf, if_pos h2] at hr ⊢
      exact hr
    · simp only [xrf, if_neg h2] at hr
      split at hr
      · refine hv j ?_
        rw [← hr]; simp [xS.Z, xu]
      · cases hr
  · refine h.2.1 c' i' k' j hl hi ?_
    simp only [xrf, xS.R, xS.Z, xu_n e] at hr ⊢
    exact hr
/-- an int-like field is written -/
theorem x_puti {idx tg : Nat} {ty : FieldType} {v : Int32} (q : Nat) (hd : decode M.cc pc = .ok (.putfield idx, 3)) (hq : pc + 3 = q) (hf : xFl M.y.cls idx c k ty false 0 tg) (hn : narrow ty (.int v) = .int v) (hfit : fits ty (.int v) = true) (hlv : T.lv c i)
    (kk : X G M n a b Q (xu I c i k v, J, R, Z, T) q L st) : X G M n a b Q (I, J, R, Z, T) pc L (.int v :: .ref (T.ad c i) :: st) := by
  have hkd : xfk c k = 0 := by obtain ⟨_, _, _, _, _, _, _, _, _, _, _, _, _, hkd, _⟩ := hf; exact hkd
  have hc20 : c < 20 := by obtain ⟨_, _, _, _, _, _, _, _, _, h, _⟩ := hf; exact h
  exact x_putf (z := (I, J, R, Z, T)) (z' := (xu I c i k v, J, R, Z, T)) q hd hq hf (Or.inl rfl) hn hfit hlv rfl (by rw [xv_i hkd]; show Value.int (xu I c i k v c i k) = _; rw [xu_eq]) (fun _ _ _ h => xv_uI h) (fun h => h.uI (fun g => absurd hc20 g)) kk
theorem x_putj {idx tg : Nat} {v : Int64} (q : Nat) (hd : decode M.cc pc = .ok (.putfield idx, 3)) (hq : pc + 3 = q) (hf : xFl M.y.cls idx c k .long false 1 tg) (hlv : T.lv c i)
    (kk : X G M n a b Q (I, xu J c i k v, R, Z, T) q L st) : X G M n a b Q (I, J, R, Z, T) pc L (.long v :: .ref (T.ad c i) :: st) := by
  have hkd : xfk c k = 1 := by obtain ⟨_, _, _, _, _, _, _, _, _, _, _, _, _, hkd, _⟩ := hf; exact hkd
  exact x_putf (z := (I, J, R, Z, T)) (z' := (I, xu J c i k v, R, Z, T)) q hd hq hf (Or.inl rfl) rfl rfl hlv rfl (by rw [xv_j hkd]; show Value.long (xu J c i k v c i k) = _; rw [xu_eq]) (fun _ _ _ h => xv_uJ h) (fun h => h.setJ) kk
theorem x_nf {ty : FieldType} (h : (∃ C, ty = .object C) ∨ ∃ t, ty = .array t) (f : Nat → Nat) (r : Option Nat) : narrow ty (va_re f r) = va_re f r ∧ fits ty (va_re f r) = true := by
  rcases h with ⟨C, rfl⟩ | ⟨t, rfl⟩ <;> cases r <;> exact ⟨rfl, rfl⟩
/-- a dynamic reference is written -/
theorem x_putr {idx tg : Nat} {ty : FieldType} {v : Option Nat} (q : Nat) (hd : decode M.cc pc = .ok (.putfield idx, 3)) (hq : pc + 3 = q) (hf : xFl M.y.cls idx c k ty false 2 tg) (hty : (∃ C, ty = .object C) ∨ ∃ t, ty = .array t) (hlv : T.lv c i) (hv : ∀ j, v = some j → T.lv tg j)
    (kk : X G M n a b Q (I, J, xu R c i k v, Z, T) q L st) : X G M n a b Q (I, J, R, Z, T) pc L (va_re (T.ad tg) v :: .ref (T.ad c i) :: st) := by
  have hkd : xfk c k = 2 ∧ xtg c k = tg := by obtain ⟨_, _, _, _, _, _, _, _, _, _, _, _, _, hkd, htg, _⟩ := hf; exact ⟨hkd, htg⟩
  obtain ⟨hn, hfit⟩ := x_nf hty (T.ad tg) v
  exact x_putf (z := (I, J, R, Z, T)) (z' := (I, J, xu R c i k v, Z, T)) q hd hq hf (Or.inl rfl) hn hfit hlv rfl (by rw [xv_r hkd.1, hkd.2]; show va_re _ (xu R c i k v c i k) = _; rw [xu_eq]) (fun _ _ _ h => xv_uR h) (fun h => h.setR (by rw [hkd.2]; exact hv)) kk
end XH
