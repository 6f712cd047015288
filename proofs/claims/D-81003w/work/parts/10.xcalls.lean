set_option maxRecDepth 100000
section XE
variable {G : xG} {M M' : xM} {n n' a b : Nat} {Q Qc : Outcome → xS → Prop} {z z' : xS} {pc q : Nat} {L L' : List (Nat × Value)} {st st' rest stk as : List Value} {I : xI} {J : xJ} {R Z : xR} {T : xT}
theorem xNoH.out {p : Program} {R : Room} {s : State} {m : MethodId} {args : Array Value} {meth : Method} {c : Code} (hC : xC G M n a b p R s m args meth c) (h : xNoH M pc) : ∀ x ∈ c.exceptionTable.toList, covers x pc = false := by
  intro x hx
  have h1 := hC.2.2.2.2.2.2.2.2.1
  have h2 := h (x.startPc, x.endPc, x.handlerPc, x.catchType) (by rw [← h1]; exact List.mem_map.mpr ⟨x, hx, rfl⟩)
  unfold covers
  simp only [Bool.and_eq_false_iff, decide_eq_false_iff_not]
  by_cases g : x.startPc ≤ pc
  · right; exact fun g2 => h2 ⟨g, g2⟩
  · left; exact g
theorem x_fin (hM : xCall G M' n' as z (xKr G M n a b Q q L rest)) {p : Program} {e : Env} {R : Room} {s : State} {m : MethodId} {args : Array Value} {below : List Frame} {meth : Method} {c : Code} (hC : xC G M n a b p R s m args meth c) {T : State} {locs : List Loc} {ls : Array Slot}
    (hH : xH G z T.heap) (h1 : a ≤ z.T.nc) (h2 : b ≤ z.T.ns) (hl : ∀ q ∈ locs, G.n0 ≤ q.base) (hL : xLs ls M.nL L) (X : Stand p G.l e R s m args below meth c T locs (z.T.nc - a) (z.T.ns - b)) {ig : Instr} (hdg : decode M.cc pc = .ok (ig, 3)) (hq : pc + 3 = q) (hnh : xNoH M pc)
    {mk : MethodId} (hnamed : T.methodNamed? M'.y = some mk) (hcw : xCw M' ∈ lw_all) (hini : Cond.initialized M'.y.cls ∈ lw_all) (hnl : M'.nL ≤ 60) (hn : n' + 1 ≤ n) (hst : (rest.map fun v => v.category).sum ≤ 100) :
    ∃ t, Steps p.tables e below (doInvoke e (T.setTop (F0 m pc ls rest)) [] mk as.toArray).1 t ∧ xQ G a b Q below s t := by
  have hroom := hC.2.2.2.2.2.2.2.2.2.1
  have hcn := hH.2.2.2.2
  subst hq
  obtain ⟨o, z', U', Lc, hH', hQ, hz1, hz2, hLc, X', hsteps⟩ := x_enter hM X (g := F0 m pc ls rest) rfl (hL.1.trans hC.2.2.2.2.1.symm) (by rw [hC.bb]; exact hdg) (W0 := 100) (by show 2 * 0 + (rest.map fun v => v.category).sum ≤ 100; omega) hnamed
    (fun w hw => by
      rcases List.mem_cons.mp hw with e | e
      · rw [e]; exact xws_warm X.warmed hC.ww hcw
      · exact xws_warm X.warmed hC.ww e)
    (xws_warm X.warmed hC.ww hini) (by omega) (by omega) (by omega) (by omega) hH (hC.stt.moved X.warmed)
  have ec : (z.T.nc - a) + (z'.T.nc - z.T.nc) = z'.T.nc - a := by omega
  have es : (z.T.ns - b) + (z'.T.ns - z.T.ns) = z'.T.ns - b := by omega
  rw [ec, es] at X'
  have hl' : ∀ q ∈ locs ++ Lc, G.n0 ≤ q.base := fun q hq => by
    rcases List.mem_append.mp hq with h | h
    · exact hl q h
    · exact hLc q h
  cases o with
  | returned v =>
    cases v with
    | none =>
      obtain ⟨t, b1, b2⟩ := hQ p e R s m args below meth c hC U'.heap (locs ++ Lc) ls hH' (by omega) (by omega) hl' hL U' rfl X'
      exact ⟨t, hsteps.trans b1, b2⟩
    | some v =>
      obtain ⟨t, b1, b2⟩ := hQ p e R s m args below meth c hC U'.heap (locs ++ Lc) ls hH' (by omega) (by omega) hl' hL U' rfl X'
      exact ⟨t, hsteps.trans b1, b2⟩
  | threw x =>
    have hlocks : meth.locks = false := hC.2.2.2.1
    obtain ⟨r1, r2, r3, r4, r5⟩ := X'.leaveThrown x (g := F0 m pc ls rest) rfl rfl rfl (hnh.out hC)
    exact ⟨_, hsteps.trans r1, .threw x, r2, r3, z', locs ++ Lc, hH', hQ, r4, by omega, by omega, hl', r5⟩
theorem x_callV {idx na ci i : Nat} (q : Nat) (hd : decode M.cc pc = .ok (.invokevirtual idx, 3)) (hq : pc + 3 = q) (hm : xMv M.y.cls idx M' na ci) (has : as.length = na) (hs : stk = as.reverse ++ .ref (z.T.ad ci i) :: rest) (hlv : z.T.lv ci i) (hnh : xNoH M pc) (hn : n' + 1 ≤ n) (hst : (rest.map fun v => v.category).sum ≤ 100)
    (hc : xCall G M' n' (.ref (z.T.ad ci i) :: as) z (xKr G M n a b Q q L rest)) : X G M n a b Q z pc L stk := by
  intro p e R s m args below meth c0 hC H locs ls hH h1 h2 hl hL T hT X
  subst hT
  obtain ⟨⟨hlk, hini, hcw, hy, hpar, hnl⟩, hin, hse, Tb, N, hvw, hc20⟩ := hm
  obtain ⟨mk, methM, hnamed, hmethM, hstM, habM⟩ := Cond.instanceMethod_spec (hC.ww _ hin)
  obtain ⟨mk', methM', cM, hnamed', hmethM', -, -, -, -, -, -, hsigM⟩ := xCw_spec (hC.ww _ hcw)
  cases hnamed.symm.trans hnamed'
  cases hmethM.symm.trans hmethM'
  obtain ⟨c2, r2, m2, q1, q2, q3, q4, kP, hkP, hkPi⟩ := Cond.selects_spec (hC.ww _ hse)
  obtain ⟨r', hr', cellB, g1, g2, g3, -⟩ := (hH.2.1 ci i hlv).2.1 hc20
  have hcls : s.vm.findClass M'.y.cls = some cellB.cls := by rw [g2]; exact (hC.kk.1 ci _ hvw).2.1
  cases hcls.symm.trans q1
  cases (State.methodFound?_of_named hnamed hy).symm.trans q2
  cases hnamed.symm.trans q3
  have hselP : selectMethod e.platform s.vm cellB.cls mk = .method mk := by rw [Launch.admits_selectMethod X.admits]; exact q4
  have hlen : as.length = methM.sig.parameters.length := by
    rw [hsigM] at hpar
    exact has.trans (Option.some.inj hpar).symm
  have hdc : decode c0.code (F0 m pc ls stk).pc = .ok (.invokevirtual idx, 3) := by rw [hC.bb]; exact hd
  rcases hlk with hlk | ⟨host, hlk⟩
  · obtain ⟨vm₁, X₁, hstep₁⟩ := X.invokevirtual hC.xx hC.own (hC.ww _ hlk) hnamed hmethM hstM hkP hkPi hy (a := z.T.ad ci i) (cell := cellB) g1
      (fun w h => by rw [g3] at h; cases h) hselP hmethM habM hkP hkPi (g := F0 m pc ls stk) rfl (argsL := as) (rest := rest) hlen hs hdc
    obtain ⟨t, b1, b2⟩ := x_fin (M' := M') hc hC (T := T.setVm vm₁) (locs := locs) (ls := ls) hH h1 h2 hl hL X₁ hd hq hnh (X₁.named hnamed) hcw hini hnl hn hst
    exact ⟨t, hstep₁ _ fun acts => by rw [doInvoke_state]; exact b1, b2⟩
  · obtain ⟨vm₁, X₁, hstep₁⟩ := X.invokevirtualNest hC.xx hC.own (va_Nw.use rfl (hC.nw _ hlk)) hnamed hmethM hstM hkP hkPi hy (a := z.T.ad ci i) (cell := cellB) g1
      (fun w h => by rw [g3] at h; cases h) hselP hmethM habM hkP hkPi (g := F0 m pc ls stk) rfl (argsL := as) (rest := rest) hlen hs hdc
    obtain ⟨t, b1, b2⟩ := x_fin (M' := M') hc hC (T := T.setVm vm₁) (locs := locs) (ls := ls) hH h1 h2 hl hL X₁ hd hq hnh (X₁.named hnamed) hcw hini hnl hn hst
    exact ⟨t, hstep₁ _ fun acts => by rw [doInvoke_state]; exact b1, b2⟩
theorem x_callS {idx na : Nat} (q : Nat) (hd : decode M.cc pc = .ok (.invokestatic idx, 3)) (hq : pc + 3 = q) (hm : xMs M.y.cls idx M' na) (has : as.length = na) (hs : stk = as.reverse ++ rest) (hnh : xNoH M pc) (hn : n' + 1 ≤ n) (hst : (rest.map fun v => v.category).sum ≤ 100)
    (hc : xCall G M' n' as z (xKr G M n a b Q q L rest)) : X G M n a b Q z pc L stk := by
  intro p e R s m args below meth c0 hC H locs ls hH h1 h2 hl hL T hT X
  subst hT
  obtain ⟨⟨hlk, hini, hcw, hy, hpar, hnl⟩, hsta⟩ := hm
  obtain ⟨mk, methM, cM, hnamed, hmethM, -, -, -, -, -, -, hsigM⟩ := xCw_spec (hC.ww _ hcw)
  have hstatic : methM.isStatic = true := Cond.static_spec hnamed hmethM (hC.ww _ hsta)
  obtain ⟨kP, hkP, -⟩ := className_of_methodNamed hnamed
  have hinitP : kP.init = .initialized := Cond.initialized_spec (findClass_of_methodNamed hnamed) hkP (hC.ww _ hini)
  have hlen : as.length = methM.sig.parameters.length := by
    rw [hsigM] at hpar
    exact has.trans (Option.some.inj hpar).symm
  have hdc : decode c0.code (F0 m pc ls stk).pc = .ok (.invokestatic idx, 3) := by rw [hC.bb]; exact hd
  rcases hlk with hlk | ⟨host, hlk⟩
  · obtain ⟨vm₁, X₁, hstep₁⟩ := X.invokestatic hC.xx hC.own (hC.ww _ hlk) hnamed hmethM hstatic hkP hinitP hy (g := F0 m pc ls stk) rfl (argsL := as) (rest := rest) hlen hs hdc
    obtain ⟨t, b1, b2⟩ := x_fin (M' := M') hc hC (T := T.setVm vm₁) (locs := locs) (ls := ls) hH h1 h2 hl hL X₁ hd hq hnh (X₁.named hnamed) hcw hini hnl hn hst
    exact ⟨t, hstep₁ _ fun acts => by rw [doInvoke_state]; exact b1, b2⟩
  · obtain ⟨vm₁, X₁, hstep₁⟩ := X.invokestaticNest hC.xx hC.own (va_Nw.use rfl (hC.nw _ hlk)) hnamed hmethM hstatic hkP hinitP hy (g := F0 m pc ls stk) rfl (argsL := as) (rest := rest) hlen hs hdc
    obtain ⟨t, b1, b2⟩ := x_fin (M' := M') hc hC (T := T.setVm vm₁) (locs := locs) (ls := ls) hH h1 h2 hl hL X₁ hd hq hnh (X₁.named hnamed) hcw hini hnl hn hst
    exact ⟨t, hstep₁ _ fun acts => by rw [doInvoke_state]; exact b1, b2⟩
theorem x_callI {idx na r : Nat} (q : Nat) (hd : decode M.cc pc = .ok (.invokespecial idx, 3)) (hq : pc + 3 = q) (hm : xMi M.y.cls idx M' na) (has : as.length = na) (hs : stk = as.reverse ++ .ref r :: rest) (hnh : xNoH M pc) (hn : n' + 1 ≤ n) (hst : (rest.map fun v => v.category).sum ≤ 100)
    (hc : xCall G M' n' (.ref r :: as) z (xKr G M n a b Q q L rest)) : X G M n a b Q z pc L stk := by
  intro p e R s m args below meth c0 hC H locs ls hH h1 h2 hl hL T hT X
  subst hT
  obtain ⟨⟨hlk, hini, hcw, hy, hpar, hnl⟩, hin, hy1, hhh, hrn⟩ := hm
  have hcode : (Cond.code M'.y M'.cc M'.nL none).before args s = true := by
    have := hC.ww _ hcw
    unfold xCw at this
    rw [hhh, hrn] at this
    exact this
  have hlen : ∀ sig, parseMethodDescriptor M'.y.desc = some sig → as.length = sig.parameters.length := fun sig h => by
    rw [h] at hpar
    exact has.trans (Option.some.inj hpar).symm
  have hpl : e.platform.magicAccessors = ({} : Platform).magicAccessors := by rw [X.admits.platform]
  have hdc : decode c0.code (F0 m pc ls stk).pc = .ok (.invokespecial idx, 3) := by rw [hC.bb]; exact hd
  rcases hlk with hlk | ⟨host, hlk⟩
  · obtain ⟨mk, methM, cM, kP, vm₁, hnamed, hmethM, hcodeM, -, hlocalsM, -, hkP, -, hW₁, hstep₁⟩ := Steps.initColdArgs (e := e) X.here hC.xx X.warmed hpl hC.own hy1 hy (hC.ww _ hlk) (hC.ww _ hin) hcode (f := F0 m pc ls stk) rfl hlen hs hdc
    have X₁ := X.noted hW₁
    obtain ⟨t, b1, b2⟩ := x_fin (M' := M') hc hC (T := T.setVm vm₁) (locs := locs) (ls := ls) hH h1 h2 hl hL X₁ hd hq hnh (X₁.named hnamed) hcw hini hnl hn hst
    exact ⟨t, hstep₁ _ fun acts => by rw [doInvoke_state]; exact b1, b2⟩
  · obtain ⟨mk, methM, cM, kP, vm₁, hnamed, hmethM, hcodeM, -, hlocalsM, -, hkP, -, hW₁, hstep₁⟩ := Steps.initColdArgsNest (e := e) X.here hC.xx X.warmed hpl hC.own hy1 hy (va_Nw.use rfl (hC.nw _ hlk)) (hC.ww _ hin) hcode (f := F0 m pc ls stk) rfl hlen hs hdc
    have X₁ := X.noted hW₁
    obtain ⟨t, b1, b2⟩ := x_fin (M' := M') hc hC (T := T.setVm vm₁) (locs := locs) (ls := ls) hH h1 h2 hl hL X₁ hd hq hnh (X₁.named hnamed) hcw hini hnl hn hst
    exact ⟨t, hstep₁ _ fun acts => by rw [doInvoke_state]; exact b1, b2⟩
/-- the locals with which a method begins -/
def xent : List Value → List (Nat × Value)
  | [] => []
  | v :: vs => if v.category = 2 then (2, v) :: xo :: xent vs else (1, v) :: xent vs
/-- A CONTRACT OUT OF THE WALK OF THE BODY -/
theorem x_body (hp : plainFor M.y = true) {L0 : List (Nat × Value)} (hL0 : ∀ ls : Array Slot, ls = (entryFrame default as.toArray M.nL).locals → xLs ls M.nL L0) (k : X G M n z.T.nc z.T.ns Q z 0 L0 []) : xCall G M n as z Q := by
  refine MetFree.of_bodySF (code := M.cc) (maxLocals := M.nL) (ret := M.ret) hp ?_ ?_
  · intro args s m h hn
    obtain ⟨mk, meth, c, h1, h2, h3, h4, h5, h6, h7, h8, -⟩ := xCw_spec (atoms_spec (ws := xws M) h _ List.mem_cons_self)
    cases hn.symm.trans h1
    exact ⟨meth, c, h2, h3, h4, h5, h7, h8⟩
  · intro p e s m args below meth c s₁ B hml hP _
    obtain ⟨rfl, hH, hK⟩ := hP
    have hh0 : s₁.heap = s.heap := by rw [B.state]; rfl
    have hts := atoms_spec (ws := xws M) B.pre
    have hown : s.vm.findClass M.y.cls = some m.cls := findClass_of_methodNamed B.named
    obtain ⟨mk, meth', c', g1, g2, g3, g4, g5, g6, g7, g8, -⟩ := xCw_spec (hts _ List.mem_cons_self)
    cases B.named.symm.trans g1
    cases B.method.symm.trans g2
    have X₀ := Stand.of_body B
    cases X₀.code.symm.trans g3
    have hnm : meth.name = M.y.name := (name_of_methodNamed B.named B.method).1
    obtain ⟨t, a1, o, b1, b2, b3⟩ := k p e { frames := n, cells := 899237 - z.T.nc, slots := 6392848 - z.T.ns, locals := 400 * n } s m as.toArray below meth c ⟨B.exec, B.bytes, B.returns, B.notSynchronized, hml, hown, hnm, fun w hw => hts w (List.mem_cons_of_mem _ hw), g6, ⟨Nat.le_refl _, Nat.le_refl _, by show 899237 ≤ 899237 - z.T.nc + z.T.nc; omega, by show 6392848 ≤ 6392848 - z.T.ns + z.T.ns; omega⟩, hK⟩
      s.heap [] (entryFrame m as.toArray M.nL).locals hH (Nat.le_refl _) (Nat.le_refl _) (fun q hq => by cases hq) (hL0 _ rfl) s₁ hh0 (by rw [Nat.sub_self, Nat.sub_self]; exact X₀)
    exact ⟨t, o, a1, b1, b2, b3⟩
end XE
