set_option maxRecDepth 100000
section XCT
theorem xasg (vm : Vm) (c : ClassId) : vm.assignable c c = true := by
  show vm.assignableAux (255 + 1) c c = true
  rw [Vm.assignableAux, Bool.or_eq_true, beq_iff_eq]; exact Or.inl rfl
theorem xgo_cold {E : CtlPost} {e : Env} {d : Bool} {acts : List Action} {s : State} {f : JFrame} {a : Addr} {Q : Handler → Pre} {x : ExceptionTableEntry} {t : List ExceptionTableEntry} {c : ClassId} {cell : Cell} {vm' : Vm}
    (hx : covers x f.pc = true) (h0 : x.catchType ≠ 0) (hg : (Jvm.resolveClass f.method.cls x.catchType).Gives e.toSetting s.vm (.ok c) vm') (hsz : vm'.classes.size ≤ s.vm.classes.size)
    (hcell : s.heap[a]? = some cell) (hobj : ∀ k, cell.vm ≠ .statics k) (hk : ∃ k, vm'.classes[cell.cls]? = some k) (hc : ∃ k, vm'.classes[c]? = some k) :
    wp (findHandler.go f a (x :: t)) Q E e d acts s ↔ if vm'.assignable cell.cls c = true then Q (.found x.handlerPc) d acts (s.setVm vm') else wp (findHandler.go f a t) Q E e d acts (s.setVm vm') := by
  simp only [covers] at hx
  obtain ⟨ha, ht⟩ := hg.op (op := VmOp.resolveClass f.method.cls x.catchType) rfl
  cases hfit : vm'.assignable cell.cls c <;>
    simp [findHandler.go, hx, h0, ha, ht, hsz, hcell, hobj, hk, hc, hfit, VmOp.dirties, VmOp.acts]
def xFinds (e : Env) (s : State) (f : JFrame) (a : Addr) (pc : Nat) (vm' : Vm) : Prop :=
  ∀ (Q : Handler → Pre) (E : CtlPost) (d : Bool) (acts : List Action), wp (findHandler f a) Q E e d acts s ↔ Q (.found pc) d acts (s.setVm vm')
theorem xThrow_catch {e : Env} {s : State} {a : Addr} {f : JFrame} {r : List Frame} {pc : Nat} {vm' : Vm} (hfind : xFinds e s f a pc vm') :
    (stepThrowing e s a (.java f :: r)).Is ((s.setVm vm').setFrames (.java { f with pc := pc, stack := [.ref a] } :: r)) [] := by
  simp only [stepThrowing, searchFrame, vmDo]
  generalize hr : Sem.go _ e false [] s = res
  obtain ⟨as, rfl, ha⟩ := Sem.eq_ok_of hr (a := Handler.found pc) (s' := s.setVm vm') (acts' := []) (by simp [hfind _ _ _ _])
  exact ⟨rfl, ha⟩
theorem xCaught {tb : Tables} {e : Env} {s target : State} {g : JFrame} {c : Code} {below : List Frame} {a : Addr} (h : At s g.method c below) {pc : Nat} {vm' : Vm} (hfind : xFinds e ((s.setTop g).pushFrame (.throwing a)) g a pc vm')
    (hrest : Steps tb e below ((s.setVm vm').setTop { g with pc := pc, stack := [.ref a] }) target) :
    Steps tb e below ((s.setTop g).pushFrame (.throwing a)) target := by
  obtain ⟨hgo, hw⟩ := h.throwing a
  refine Steps.head hgo hw ?_
  rw [stepThread_throwing (frames_entered h.top _), (xThrow_catch (s := (s.setTop g).pushFrame (.throwing a)) hfind).1]
  obtain ⟨g₀, hg⟩ := Option.isSome_iff_exists.mp h.top
  obtain ⟨r, hr⟩ := State.topJava?_eq_some.mp hg
  have hr' : (s.setVm vm').frames = .java g₀ :: r := hr
  rw [State.setTop_of_frames _ hr'] at hrest
  have e1 : ((s.setTop g).pushFrame (.throwing a)).setVm vm' = ((s.setVm vm').setTop g).pushFrame (.throwing a) := by
    rw [State.setTop_of_frames _ hr, State.setTop_of_frames _ hr']
    rfl
  rw [e1, State.pushFrame, State.setFrames_setFrames, State.setTop_of_frames _ hr', State.setFrames_setFrames, hr]
  exact hrest

theorem xStand_catch {p : Program} {l : Launch} {e : Env} {R : Room} {s : State} {m : MethodId} {args : Array Value} {below : List Frame} {meth : Method} {c : Code} {T : State} {locs : List Loc} {cells slots : Nat} (X : Stand p l e R s m args below meth c T locs cells slots)
    {own name : String} {index : Nat} (hown : s.vm.findClass own = some m.cls) (hlink : (Cond.classLink own index name).before args s = true)
    {a : Addr} {cell : Cell} {cT : ClassId} {ks : Class} (hcell : T.heap[a]? = some cell) (hobj : ∀ k, cell.vm ≠ .statics k) (hks : s.vm.classes[cell.cls]? = some ks)
    (hcT : s.vm.findClass name = some cT) (hasg : s.vm.assignable cell.cls cT = true)
    {g : JFrame} (hg : g.method = m) {x : ExceptionTableEntry} {rest : List ExceptionTableEntry} (hsplit : c.exceptionTable.toList = x :: rest) (hx : covers x g.pc = true) (h0 : x.catchType = index) (hi : index ≠ 0) :
    ∃ vm', Stand p l e R s m args below meth c (T.setVm vm') locs cells slots ∧
      ∀ target, Steps p.tables e below ((T.setVm vm').setTop { g with pc := x.handlerPc, stack := [.ref a] }) target → Steps p.tables e below ((T.setTop g).pushFrame (.throwing a)) target := by
  have hpl : e.platform.magicAccessors = ({} : Platform).magicAccessors := by rw [X.admits.platform]
  obtain ⟨c', hc', hcl⟩ := Cond.classLink_spec hown hlink e.platform hpl
  cases hcT.symm.trans hc'
  obtain ⟨dk, _, _, kt, hd, _, _, _, _, hkt, _, hopen⟩ := hcl.here
  have hcl₀ := X.warmed.classLinks hcl
  have hW' : s.WarmedH (T.vm.noted m.cls index (.cls cT)) := X.warmed.noted hd hopen (State.rightAt_cls hcl)
  obtain ⟨ks', hks', -⟩ := hW'.alike.2.2 _ _ hks
  obtain ⟨kt', hkt', -⟩ := hW'.alike.2.2 _ _ hkt
  refine ⟨_, X.noted hW', fun target hrest => ?_⟩
  subst hg
  have hAt : At T g.method c below := X.here
  refine xCaught hAt (fun Q E d acts => ?_) hrest
  have hvm : ((T.setTop g).pushFrame (.throwing a)).vm = T.vm := Stand.throwing_vm T g a
  have hhp : ((T.setTop g).pushFrame (.throwing a)).heap = T.heap := Stand.throwing_heap T g a
  rw [W.findHandler_eq (meth := meth) (code := c) (by rw [hvm]; exact X.method') X.code, hsplit]
  rw [xgo_cold (c := cT) (cell := cell) (vm' := T.vm.noted g.method.cls index (.cls cT)) hx (by rw [h0]; exact hi) (by rw [h0, hvm]; exact resolveClass_links e.toSetting hcl₀) (by rw [hvm]; no_record) (by rw [hhp]; exact hcell) hobj ⟨ks', hks'⟩ ⟨kt', hkt'⟩, if_pos (by rw [hW'.alike.assignable]; exact hasg)]

variable {G : xG} {M M' : xM} {n n' a b : Nat} {Q : Outcome → xS → Prop} {z z' : xS} {pc q : Nat} {L L' : List (Nat × Value)} {st rest stk as : List Value}
/-- how a call comes back to a method with one handler over it, for class c -/
def xKh (G : xG) (M : xM) (n a b : Nat) (Q : Outcome → xS → Prop) (q h c : Nat) (L : List (Nat × Value)) (rest : List Value) (o : Outcome) (z : xS) : Prop := match o with
  | .threw r => ∃ i, r = z.T.ad c i ∧ z.T.lv c i ∧ X G M n a b Q z h L [.ref (z.T.ad c i)]
  | o => xKr G M n a b Q q L rest o z
/-- one handler, for the class numbered c, covers pc -/
def xHd (M : xM) (pc h c : Nat) : Prop := ∃ sp ep ct r, M.hh = [(sp, ep, h, ct)] ∧ sp ≤ pc ∧ pc < ep ∧ ct ≠ 0 ∧ vwCl[c]? = some r ∧ c < 20 ∧ Cond.classLink M.y.cls ct r.1 ∈ lw_all
theorem x_finH {h ch : Nat} (hM : xCall G M' n' as z (xKh G M n a b Q q h ch L rest)) {p : Program} {e : Env} {R : Room} {s : State} {m : MethodId} {args : Array Value} {below : List Frame} {meth : Method} {c : Code} (hC : xC G M n a b p R s m args meth c) {T : State} {locs : List Loc} {ls : Array Slot}
    (hH : xH G z T.heap) (h1 : a ≤ z.T.nc) (h2 : b ≤ z.T.ns) (hl : ∀ q ∈ locs, G.n0 ≤ q.base) (hL : xLs ls M.nL L) (X : Stand p G.l e R s m args below meth c T locs (z.T.nc - a) (z.T.ns - b)) {ig : Instr} (hdg : decode M.cc pc = .ok (ig, 3)) (hq : pc + 3 = q) (hnh : xHd M pc h ch)
    {mk : MethodId} (hnamed : T.methodNamed? M'.y = some mk) (hcw : xCw M' ∈ lw_all) (hini : Cond.initialized M'.y.cls ∈ lw_all) (hnl : M'.nL ≤ 60) (hn : n' + 1 ≤ n) (hst : (rest.map fun v => v.category).sum ≤ 100) :
    ∃ t, Steps p.tables e below (doInvoke e (T.setTop (F0 m pc ls rest)) [] mk as.toArray).1 t ∧ xQ G a b Q below s t := by
  have hroom := hC.2.2.2.2.2.2.2.2.2.1
  have hcn := hH.2.2.2.2
  subst hq
  obtain ⟨o, z', U', Lc, hH', hQ, hz1, hz2, hLc, X', hsteps⟩ := x_enter hM X (g := F0 m pc ls rest) rfl (hL.1.trans hC.2.2.2.2.1.symm) (by rw [hC.bb]; exact hdg) (W0 := 100) (by show 2 * 0 + (rest.map fun v => v.category).sum ≤ 100; omega) hnamed
    (fun w hw => by
      rcases List.mem_cons.mp hw with e | e
      · rw [e]; exact xws_warm X.warmed hC.ww hcw
      · exact xws_warm X.warmed hC.ww e)
    (xws_warm X.warmed hC.ww hini) (by omega) (by omega) (by omega) (by omega) hH (hC.stt.moved X.warmed)
  have ec : (z.T.nc - a) + (z'.T.nc - z.T.nc) = z'.T.nc - a := by omega
  have es : (z.T.ns - b) + (z'.T.ns - z.T.ns) = z'.T.ns - b := by omega
  rw [ec, es] at X'
  have hl' : ∀ q ∈ locs ++ Lc, G.n0 ≤ q.base := fun q hq => by
    rcases List.mem_append.mp hq with h | h
    · exact hl q h
    · exact hLc q h
  cases o with
  | returned v =>
    cases v with
    | none =>
      obtain ⟨t, b1, b2⟩ := hQ p e R s m args below meth c hC U'.heap (locs ++ Lc) ls hH' (by omega) (by omega) hl' hL U' rfl X'
      exact ⟨t, hsteps.trans b1, b2⟩
    | some v =>
      obtain ⟨t, b1, b2⟩ := hQ p e R s m args below meth c hC U'.heap (locs ++ Lc) ls hH' (by omega) (by omega) hl' hL U' rfl X'
      exact ⟨t, hsteps.trans b1, b2⟩
  | threw x =>
    obtain ⟨i, rfl, hlv, hX⟩ := hQ
    obtain ⟨sp, ep, ct, r, hhh, hp1, hp2, h0, hvw, hc20, hcl⟩ := hnh
    obtain ⟨r', hr', cellB, g1, g2, g3, -⟩ := (hH'.2.1 ch i hlv).2.1 hc20
    have hcls : s.vm.findClass r.1 = some cellB.cls := by rw [g2]; exact (hC.kk.1 ch _ hvw).2.1
    obtain ⟨ks, hks⟩ := Vm.classAt_of_findClass hcls
    have htab := hC.2.2.2.2.2.2.2.2.1
    rw [hhh] at htab
    obtain ⟨y, hy, hye⟩ : ∃ y : ExceptionTableEntry, c.exceptionTable.toList = [y] ∧ (y.startPc, y.endPc, y.handlerPc, y.catchType) = (sp, ep, h, ct) := by
      cases hl : c.exceptionTable.toList with
      | nil => rw [hl] at htab; cases htab
      | cons y t =>
        rw [hl] at htab
        cases t with
        | nil => exact ⟨y, rfl, (List.cons.inj htab).1⟩
        | cons y2 t2 => exact absurd (List.cons.inj htab).2 (by simp)
    have e1 : y.startPc = sp := congrArg (fun q => q.1) hye
    have e2 : y.endPc = ep := congrArg (fun q => q.2.1) hye
    have e3 : y.handlerPc = h := congrArg (fun q => q.2.2.1) hye
    have e4 : y.catchType = ct := congrArg (fun q => q.2.2.2) hye
    obtain ⟨vm', X'', hst'⟩ := xStand_catch X' hC.own (hC.ww _ hcl) (a := z'.T.ad ch i) (cell := cellB) g1 (fun w hw => by rw [g3] at hw; cases hw) hks hcls (xasg _ _) (g := F0 m pc ls rest) rfl (x := y) (rest := []) hy (by unfold covers; simp only [Bool.and_eq_true, decide_eq_true_eq]; exact ⟨by rw [e1]; exact hp1, by rw [e2]; exact hp2⟩) e4 h0
    obtain ⟨t, b1, b2⟩ := hX p e R s m args below meth c hC U'.heap (locs ++ Lc) ls hH' (by omega) (by omega) hl' hL (U'.setVm vm') rfl X''
    rw [e3] at hst'
    exact ⟨t, hsteps.trans (hst' _ b1), b2⟩
theorem x_callVH {h ch idx na ci i : Nat} (q : Nat) (hd : decode M.cc pc = .ok (.invokevirtual idx, 3)) (hq : pc + 3 = q) (hm : xMv M.y.cls idx M' na ci) (has : as.length = na) (hs : stk = as.reverse ++ .ref (z.T.ad ci i) :: rest) (hlv : z.T.lv ci i) (hnh : xHd M pc h ch) (hn : n' + 1 ≤ n) (hst : (rest.map fun v => v.category).sum ≤ 100)
    (hc : xCall G M' n' (.ref (z.T.ad ci i) :: as) z (xKh G M n a b Q q h ch L rest)) : X G M n a b Q z pc L stk := by
  intro p e R s m args below meth c0 hC H locs ls hH h1 h2 hl hL T hT X
  subst hT
  obtain ⟨⟨hlk, hini, hcw, hy, hpar, hnl⟩, hin, hse, Tb, N, hvw, hc20⟩ := hm
  obtain ⟨mk, methM, hnamed, hmethM, hstM, habM⟩ := Cond.instanceMethod_spec (hC.ww _ hin)
  obtain ⟨mk', methM', cM, hnamed', hmethM', -, -, -, -, -, -, hsigM⟩ := xCw_spec (hC.ww _ hcw)
  cases hnamed.symm.trans hnamed'
  cases hmethM.symm.trans hmethM'
  obtain ⟨c2, r2, m2, q1, q2, q3, q4, kP, hkP, hkPi⟩ := Cond.selects_spec (hC.ww _ hse)
  obtain ⟨r', hr', cellB, g1, g2, g3, -⟩ := (hH.2.1 ci i hlv).2.1 hc20
  have hcls : s.vm.findClass M'.y.cls = some cellB.cls := by rw [g2]; exact (hC.kk.1 ci _ hvw).2.1
  cases hcls.symm.trans q1
  cases (State.methodFound?_of_named hnamed hy).symm.trans q2
  cases hnamed.symm.trans q3
  have hselP : selectMethod e.platform s.vm cellB.cls mk = .method mk := by rw [Launch.admits_selectMethod X.admits]; exact q4
  have hlen : as.length = methM.sig.parameters.length := by
    rw [hsigM] at hpar
    exact has.trans (Option.some.inj hpar).symm
  have hdc : decode c0.code (F0 m pc ls stk).pc = .ok (.invokevirtual idx, 3) := by rw [hC.bb]; exact hd
  rcases hlk with hlk | ⟨host, hlk⟩
  · obtain ⟨vm₁, X₁, hstep₁⟩ := X.invokevirtual hC.xx hC.own (hC.ww _ hlk) hnamed hmethM hstM hkP hkPi hy (a := z.T.ad ci i) (cell := cellB) g1
      (fun w h => by rw [g3] at h; cases h) hselP hmethM habM hkP hkPi (g := F0 m pc ls stk) rfl (argsL := as) (rest := rest) hlen hs hdc
    obtain ⟨t, b1, b2⟩ := x_finH (M' := M') hc hC (T := T.setVm vm₁) (locs := locs) (ls := ls) hH h1 h2 hl hL X₁ hd hq hnh (X₁.named hnamed) hcw hini hnl hn hst
    exact ⟨t, hstep₁ _ fun acts => by rw [doInvoke_state]; exact b1, b2⟩
  · obtain ⟨vm₁, X₁, hstep₁⟩ := X.invokevirtualNest hC.xx hC.own (va_Nw.use rfl (hC.nw _ hlk)) hnamed hmethM hstM hkP hkPi hy (a := z.T.ad ci i) (cell := cellB) g1
      (fun w h => by rw [g3] at h; cases h) hselP hmethM habM hkP hkPi (g := F0 m pc ls stk) rfl (argsL := as) (rest := rest) hlen hs hdc
    obtain ⟨t, b1, b2⟩ := x_finH (M' := M') hc hC (T := T.setVm vm₁) (locs := locs) (ls := ls) hH h1 h2 hl hL X₁ hd hq hnh (X₁.named hnamed) hcw hini hnl hn hst
    exact ⟨t, hstep₁ _ fun acts => by rw [doInvoke_state]; exact b1, b2⟩
end XCT
theorem hd_perform {pc : Nat} (h1 : 199 ≤ pc) (h2 : pc < 228) : xHd mX1_perform pc 231 3 := ⟨199, 228, 50, _, rfl, h1, h2, by decide, rfl, by decide, q285⟩
theorem nh_perform {pc : Nat} (h : pc < 199 ∨ 228 ≤ pc) : xNoH mX1_perform pc := fun y hy => by
  have e : y = (199, 228, 231, 50) := List.mem_singleton.mp hy
  subst e
  show ¬ (199 ≤ pc ∧ pc < 228)
  omega
