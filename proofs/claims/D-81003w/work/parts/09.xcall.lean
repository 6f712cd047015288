set_option maxRecDepth 100000
theorem xCw_spec {M : xM} {args : Array Value} {s : State} (h : (xCw M).before args s = true) : ∃ mk meth c, s.methodNamed? M.y = some mk ∧ s.vm.method? mk = some meth ∧ meth.code = some c ∧ c.code = M.cc ∧ c.maxLocals = M.nL ∧
    c.exceptionTable.toList.map (fun h => (h.startPc, h.endPc, h.handlerPc, h.catchType)) = M.hh ∧ meth.sig.returnType = M.ret ∧ meth.locks = false ∧ parseMethodDescriptor M.y.desc = some meth.sig := by
  unfold xCw at h
  split at h
  · next e =>
    obtain ⟨mk, hn⟩ := Cond.code_named h
    obtain ⟨meth, c, h1, h2, h3, h4, h5, h6, h7, h8⟩ := Cond.code_spec hn h
    refine ⟨mk, meth, c, hn, h1, h2, h3, h4, ?_, h5, h6, h8⟩
    have : c.exceptionTable.toList = [] := by
      have := Array.isEmpty_iff.mp h7
      rw [this]
    rw [this, e]; rfl
  · exact Cond.codeWith_spec h
section XE
variable {G : xG} {M M' : xM} {n n' a b : Nat} {Q Qc : Outcome → xS → Prop} {z z' : xS} {pc : Nat} {L L' : List (Nat × Value)} {st st' : List Value} {I : xI} {J : xJ} {R Z : xR} {T : xT}
-- the ends
theorem x_ireturn {v : Int32} (hd : decode M.cc pc = .ok (.ireturn, 1)) (hr : M.ret = some .int) (hq : Q (.returned (some (.int v))) z) : X G M n a b Q z pc L [.int v] := by
  intro p e R s m args below meth c hC H locs ls hH h1 h2 hl hL T hT X
  have hlocks : meth.locks = false := hC.2.2.2.1
  have hx := hC.xx
  have hb := hC.bb
  have hr' : meth.sig.returnType = some .int := hC.2.2.1.trans hr
  obtain ⟨fs, hret, hrun, hended, hW, hframe⟩ := X.leave (v := some (.int v)) (fun h => by rw [hr'] at h; cases h)
  have hmeth' : T.vm.method? m = some meth := X.method'
  refine ⟨T.setFrames fs, ?_, .returned (some (.int v)), hrun, hended, z, locs, by show xH G z T.heap; rw [hT]; exact hH, hq, hW, h1, h2, hl, hframe⟩
  jvm_step X.here [X.here.top, hx, hb, hd, hmeth', hr', narrow]
  (try refine ⟨rfl, ?_⟩); (try refine ⟨rfl, ?_⟩)
  first | (intro acts; rw [hret _ acts rfl rfl rfl]) | rw [hret _ _ rfl rfl rfl]
  exact Steps.refl _
theorem x_zreturn {v : Int32} (hd : decode M.cc pc = .ok (.ireturn, 1)) (hr : M.ret = some .boolean) (hv : v = 0 ∨ v = 1) (hq : Q (.returned (some (.int v))) z) : X G M n a b Q z pc L [.int v] := by
  intro p e R s m args below meth c hC H locs ls hH h1 h2 hl hL T hT X
  have hlocks : meth.locks = false := hC.2.2.2.1
  have hx := hC.xx
  have hb := hC.bb
  have hr' : meth.sig.returnType = some .boolean := hC.2.2.1.trans hr
  have hn : narrow .boolean (.int v) = .int v := by rcases hv with rfl | rfl <;> rfl
  obtain ⟨fs, hret, hrun, hended, hW, hframe⟩ := X.leave (v := some (.int v)) (fun h => by rw [hr'] at h; cases h)
  have hmeth' : T.vm.method? m = some meth := X.method'
  refine ⟨T.setFrames fs, ?_, .returned (some (.int v)), hrun, hended, z, locs, by show xH G z T.heap; rw [hT]; exact hH, hq, hW, h1, h2, hl, hframe⟩
  jvm_step X.here [X.here.top, hx, hb, hd, hmeth', hr', hn]
  (try refine ⟨rfl, ?_⟩); (try refine ⟨rfl, ?_⟩)
  first | (intro acts; rw [hret _ acts rfl rfl rfl]) | rw [hret _ _ rfl rfl rfl]
  exact Steps.refl _
theorem x_lreturn {v : Int64} (hd : decode M.cc pc = .ok (.lreturn, 1)) (hr : M.ret = some .long) (hq : Q (.returned (some (.long v))) z) : X G M n a b Q z pc L [.long v] := by
  intro p e R s m args below meth c hC H locs ls hH h1 h2 hl hL T hT X
  have hlocks : meth.locks = false := hC.2.2.2.1
  have hx := hC.xx
  have hb := hC.bb
  have hr' : meth.sig.returnType = some .long := hC.2.2.1.trans hr
  obtain ⟨fs, hret, hrun, hended, hW, hframe⟩ := X.leave (v := some (.long v)) (fun h => by rw [hr'] at h; cases h)
  have hmeth' : T.vm.method? m = some meth := X.method'
  refine ⟨T.setFrames fs, ?_, .returned (some (.long v)), hrun, hended, z, locs, by show xH G z T.heap; rw [hT]; exact hH, hq, hW, h1, h2, hl, hframe⟩
  jvm_step X.here [X.here.top, hx, hb, hd, hmeth', hr', narrow]
  (try refine ⟨rfl, ?_⟩); (try refine ⟨rfl, ?_⟩)
  first | (intro acts; rw [hret _ acts rfl rfl rfl]) | rw [hret _ _ rfl rfl rfl]
  exact Steps.refl _
theorem x_vreturn (hd : decode M.cc pc = .ok (.return_, 1)) (hr : M.ret = none) (hq : Q (.returned none) z) : X G M n a b Q z pc L [] := by
  intro p e R s m args below meth c hC H locs ls hH h1 h2 hl hL T hT X
  have hlocks : meth.locks = false := hC.2.2.2.1
  have hx := hC.xx
  have hb := hC.bb
  have hr' : meth.sig.returnType = none := hC.2.2.1.trans hr
  obtain ⟨fs, hret, hrun, hended, hW, hframe⟩ := X.leave (v := none) (fun _ => rfl)
  have hmeth' : T.vm.method? m = some meth := X.method'
  refine ⟨T.setFrames fs, ?_, .returned none, hrun, hended, z, locs, by show xH G z T.heap; rw [hT]; exact hH, hq, hW, h1, h2, hl, hframe⟩
  jvm_step X.here [X.here.top, hx, hb, hd, hmeth', hr']
  (try refine ⟨rfl, ?_⟩); (try refine ⟨rfl, ?_⟩)
  first | (intro acts; rw [hret _ acts rfl rfl rfl]) | rw [hret _ _ rfl rfl rfl]
  exact Steps.refl _
theorem x_areturn0 {v : Value} (hd : decode M.cc pc = .ok (.areturn, 1)) {rt : FieldType} (hr : M.ret = some rt) (hrt : (∃ n, rt = .object n) ∨ ∃ t, rt = .array t) (hv : v = .null ∨ ∃ a, v = .ref a) (hq : Q (.returned (some v)) z) : X G M n a b Q z pc L [v] := by
  intro p e R s m args below meth c hC H locs ls hH h1 h2 hl hL T hT X
  have hlocks : meth.locks = false := hC.2.2.2.1
  have hx := hC.xx
  have hb := hC.bb
  have hr' : meth.sig.returnType = some rt := hC.2.2.1.trans hr
  obtain ⟨fs, hret, hrun, hended, hW, hframe⟩ := X.leave (v := some v) (fun h => by rw [hr'] at h; cases h)
  have hmeth' : T.vm.method? m = some meth := X.method'
  refine ⟨T.setFrames fs, ?_, .returned (some v), hrun, hended, z, locs, by show xH G z T.heap; rw [hT]; exact hH, hq, hW, h1, h2, hl, hframe⟩
  rcases hrt with ⟨n, rfl⟩ | ⟨t, rfl⟩ <;> rcases hv with rfl | ⟨a, rfl⟩ <;>
    (jvm_step X.here [X.here.top, hx, hb, hd, hmeth', hr']
     (try refine ⟨rfl, ?_⟩); (try refine ⟨rfl, ?_⟩)
     first | (intro acts; rw [hret _ acts rfl rfl rfl]) | rw [hret _ _ rfl rfl rfl]
     exact Steps.refl _)
theorem x_areturn {v : Nat} (hd : decode M.cc pc = .ok (.areturn, 1)) {rt : FieldType} (hr : M.ret = some rt) (hrt : (∃ n, rt = .object n) ∨ ∃ t, rt = .array t) (hq : Q (.returned (some (.ref v))) z) : X G M n a b Q z pc L [.ref v] :=
  x_areturn0 hd hr hrt (Or.inr ⟨_, rfl⟩) hq
theorem x_areturn_r {f : Nat → Nat} {r : Option Nat} (hd : decode M.cc pc = .ok (.areturn, 1)) {rt : FieldType} (hr : M.ret = some rt) (hrt : (∃ n, rt = .object n) ∨ ∃ t, rt = .array t) (hq : Q (.returned (some (va_re f r))) z) : X G M n a b Q z pc L [va_re f r] :=
  x_areturn0 hd hr hrt (by cases r with | none => exact Or.inl rfl | some j => exact Or.inr ⟨_, rfl⟩) hq
/-- where an invocation stands behind a call: it came back, or it threw -/
def xBeh (U' : State) (g : JFrame) (len : Nat) (o : Outcome) : State := match o with
  | .returned v => U'.setTop { g with pc := g.pc + len, stack := v.toList ++ g.stack }
  | .threw x => (U'.setTop g).pushFrame (.throwing x)
theorem x_enter {as : List Value} (hM : xCall G M' n' as z Qc) {p : Program} {e : Env} {R : Room} {s : State} {m : MethodId} {args : Array Value} {below : List Frame} {meth : Method} {c : Code} {U : State} {locs : List Loc} {cells slots : Nat}
    (X : Stand p G.l e R s m args below meth c U locs cells slots) {g : JFrame} (hg : g.method = m) (hsize : g.locals.size = c.maxLocals) {ig : Instr} {len : Nat} (hdg : decode c.code g.pc = .ok (ig, len)) {W0 : Nat} (hW : 2 * g.monitorRoom + (g.stack.map fun v => v.category).sum ≤ W0)
    {mk : MethodId} (hn : U.methodNamed? M'.y = some mk) (hpre : ∀ w ∈ xws M', w.before as.toArray U = true) (hinit : (Cond.initialized M'.y.cls).before as.toArray U = true)
    (hfr : n' + 1 ≤ R.frames) (hlo : W0 + (M'.nL + 11) + 400 * n' ≤ R.locals) (hce : cells + (899237 - z.T.nc) ≤ R.cells) (hsl : slots + (6392848 - z.T.ns) ≤ R.slots) (hH : xH G z U.heap) (hK : xK G U) :
    ∃ (o : Outcome) (z' : xS) (U' : State) (Lc : List Loc), xH G z' U'.heap ∧ Qc o z' ∧ z.T.nc ≤ z'.T.nc ∧ z.T.ns ≤ z'.T.ns ∧ (∀ q ∈ Lc, G.n0 ≤ q.base) ∧ Stand p G.l e R s m args below meth c U' (locs ++ Lc) (cells + (z'.T.nc - z.T.nc)) (slots + (z'.T.ns - z.T.ns)) ∧
      Steps p.tables e below (doInvoke e (U.setTop g) [] mk as.toArray).1 (xBeh U' g len o) := by
  obtain ⟨mk', methY, cY, hnY', hmY, hcY, -, hlY, -⟩ := xCw_spec (hpre _ List.mem_cons_self)
  cases hn.symm.trans hnY'
  obtain ⟨kY, hkY, -⟩ := className_of_methodNamed hn
  have hinitY : kY.init = .initialized := Cond.initialized_spec (findClass_of_methodNamed hn) hkY hinit
  have h : At U g.method c below := by rw [hg]; exact X.here
  have happ : (headSpec (xws M') { frames := n', cells := 899237 - z.T.nc, slots := 6392848 - z.T.ns, locals := 400 * n' }).appliesLoose M'.y e.platform (U.calling g mk as.toArray) = true :=
    Spec.appliesLoose_calling (g := g) h hdg hn hkY hinitY
      (X.room_calling (g := g) (R' := { frames := n', cells := 899237 - z.T.nc, slots := 6392848 - z.T.ns, locals := 400 * n' }) hsize hmY hcY hfr (by rw [hlY]; show _ + _ + 400 * n' ≤ _; omega) hce hsl) (atoms_intro hpre)
  obtain ⟨mid, hmid⟩ := h.above
  have hfr' : (U.setTop g).frames = (.java g :: mid) ++ below := by rw [State.frames_setTop' g h.top, hmid]; rfl
  have hK2 : xK G (U.calling g mk as.toArray) := hK.moved (State.WarmedH.refl U)
  obtain ⟨o, s₂, hsteps, -, hend, hq⟩ := Steps.callFree hM p X.admits X.cas X.clock (acts := []) hfr' happ ⟨rfl, hH, hK2⟩ trivial
  have hq' : xE G z.T.nc z.T.ns Qc (U.calling g mk as.toArray) o s₂ := hq
  obtain ⟨z', Lc, hH', hQ, hW₂, hz1, hz2, hLc, e2, q2, q3, q4, q5, q6⟩ := hq'
  rw [State.frames_setTop' g h.top] at hend
  have e3 : s₂ = ({ (U.calling g mk as.toArray).setFrames s₂.frames with heap := s₂.heap, slotsUsed := s₂.slotsUsed } : State).setVm s₂.vm := by
    have : s₂ = ({ s₂ with vm := (U.calling g mk as.toArray).vm } : State).setVm s₂.vm := rfl
    rw [e2] at this
    exact this
  have hW' : U.WarmedH s₂.vm := hW₂
  obtain ⟨g₀, hg0⟩ := Option.isSome_iff_exists.mp h.top
  obtain ⟨r, hr⟩ := State.topJava?_eq_some.mp hg0
  have hsame : U.sameButNew ({ U with heap := s₂.heap, slotsUsed := s₂.slotsUsed } : State) Lc (z'.T.nc - z.T.nc) (z'.T.ns - z.T.ns) := by
    refine ⟨?_, q2, q3, q4, q5, q6⟩
    obtain ⟨t, ht, -⟩ := State.frames_cons hr
    show ({ U with heap := s₂.heap, slotsUsed := s₂.slotsUsed } : State) = { U.setFrames U.frames with heap := s₂.heap, slotsUsed := s₂.slotsUsed }
    rw [State.setFrames_self ht]
  refine ⟨o, z', (({ U with heap := s₂.heap, slotsUsed := s₂.slotsUsed } : State).setVm s₂.vm), Lc, hH', hQ, hz1, hz2, hLc,
    ⟨X.admits, X.cas, X.clock, X.frames, X.room, X.hears, X.method, X.code, (X.here.setHeapUsed s₂.heap s₂.slotsUsed).setVm hW'.alike, X.tail, State.WarmedH.trans X.warmed hW', X.limits, X.bytes, X.same.trans (hsame.setVm s.vm)⟩, ?_⟩
  have hr' : (({ U with heap := s₂.heap, slotsUsed := s₂.slotsUsed } : State).setVm s₂.vm).frames = .java g₀ :: r := hr
  cases o with
  | returned v =>
    obtain ⟨c₂, i₂, len₂, hc₂, hd₂, hf₂⟩ := hend
    have hcc : c₂ = c := by
      have h1 : s₂.code? g.method = U.code? g.method := by
        rw [State.code?_eq, State.code?_eq, hW'.alike.method?]
      exact Option.some.inj (hc₂.symm.trans (h1.trans h.code))
    subst hcc
    have hlen : len₂ = len := by rw [hdg] at hd₂; cases hd₂; rfl
    subst hlen
    have hs₂ : s₂ = (({ U with heap := s₂.heap, slotsUsed := s₂.slotsUsed } : State).setVm s₂.vm).setTop { g with pc := g.pc + len₂, stack := v.toList ++ g.stack } := by
      refine e3.trans ?_
      rw [hf₂, State.calling_eq h.top, State.setFrames_setFrames, State.setTop_of_frames _ hr', hr]
      rfl
    show Steps p.tables e below _ ((({ U with heap := s₂.heap, slotsUsed := s₂.slotsUsed } : State).setVm s₂.vm).setTop { g with pc := g.pc + len₂, stack := v.toList ++ g.stack })
    rw [← hs₂]
    exact hsteps
  | threw x =>
    have hf₂ : s₂.frames = .throwing x :: (.java g :: U.frames.tail) := hend
    have hs₂ : s₂ = ((({ U with heap := s₂.heap, slotsUsed := s₂.slotsUsed } : State).setVm s₂.vm).setTop g).pushFrame (.throwing x) := by
      refine e3.trans ?_
      rw [hf₂, State.calling_eq h.top, State.setFrames_setFrames, State.setTop_of_frames _ hr', hr]
      rw [State.pushFrame, State.frames_setFrames _ (State.cur_lt_of_frames hr'), State.setFrames_setFrames]
      rfl
    show Steps p.tables e below _ (((({ U with heap := s₂.heap, slotsUsed := s₂.slotsUsed } : State).setVm s₂.vm).setTop g).pushFrame (.throwing x))
    rw [← hs₂]
    exact hsteps
/-- the words of a method named by the entry idx of the class own: by its receiver (class number ci), by nothing, as a constructor -/
def xMy (own : String) (idx : Nat) (M' : xM) (na : Nat) : Prop :=
  (Cond.methodLink own idx M'.y ∈ lw_all ∨ ∃ host, Cond.methodLinkNest own idx M'.y host ∈ xNw) ∧ Cond.initialized M'.y.cls ∈ lw_all ∧ xCw M' ∈ lw_all ∧
  (M'.y.cls ≠ "java/lang/invoke/MethodHandle" ∧ M'.y.cls ≠ "java/lang/invoke/VarHandle") ∧ (parseMethodDescriptor M'.y.desc).map (fun d => d.parameters.length) = some na ∧ M'.nL ≤ 60
def xMv (own : String) (idx : Nat) (M' : xM) (na ci : Nat) : Prop := xMy own idx M' na ∧ Cond.instanceMethod M'.y ∈ lw_all ∧ Cond.selects M'.y.cls M'.y M'.y ∈ lw_all ∧ ∃ Tb N, vwCl[ci]? = some (M'.y.cls, Tb, N) ∧ ci < 20
def xMs (own : String) (idx : Nat) (M' : xM) (na : Nat) : Prop := xMy own idx M' na ∧ Cond.static M'.y ∈ lw_all
def xMi (own : String) (idx : Nat) (M' : xM) (na : Nat) : Prop := xMy own idx M' na ∧ Cond.instanceMethod M'.y ∈ lw_all ∧ M'.y.name = "<init>" ∧ M'.hh = [] ∧ M'.ret = none
/-- no handler covers pc -/
def xNoH (M : xM) (pc : Nat) : Prop := ∀ h ∈ M.hh, ¬ (h.1 ≤ pc ∧ pc < h.2.1)
/-- what goes on behind a call at a place that no handler covers -/
def xKr (G : xG) (M : xM) (n a b : Nat) (Q : Outcome → xS → Prop) (q : Nat) (L : List (Nat × Value)) (st : List Value) (o : Outcome) (z' : xS) : Prop := match o with
  | .returned none => X G M n a b Q z' q L st
  | .returned (some v) => X G M n a b Q z' q L (v :: st)
  | .threw x => Q (.threw x) z'
theorem xws_warm {s U : State} {args a' : Array Value} (hW : s.WarmedH U.vm) (hts : ∀ w ∈ lw_all, w.before args s = true) {w : Cond} (hw : w ∈ lw_all) : w.before a' U = true := word_at hW (lw_self w hw).2 (hts w hw)
end XE
