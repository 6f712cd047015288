/-! THE X LAYER: the machine over an abstract heap. I ints, J longs, R dynamic references, Z static references, by class, object, field or element; T the shape -/
set_option maxRecDepth 100000
abbrev xI : Type := Nat → Nat → Nat → Int32
abbrev xJ : Type := Nat → Nat → Nat → Int64
abbrev xR : Type := Nat → Nat → Nat → Option Nat
/-- live, length, address, cells made, slots made -/
abbrev xT : Type := (Nat → Nat → Prop) × (Nat → Nat → Nat) × (Nat → Nat → Nat) × Nat × Nat
abbrev xT.lv (T : xT) : Nat → Nat → Prop := T.1
abbrev xT.len (T : xT) : Nat → Nat → Nat := T.2.1
abbrev xT.ad (T : xT) : Nat → Nat → Nat := T.2.2.1
abbrev xT.nc (T : xT) : Nat := T.2.2.2.1
abbrev xT.ns (T : xT) : Nat := T.2.2.2.2
abbrev xS : Type := xI × xJ × xR × xR × xT
abbrev xS.I (s : xS) : xI := s.1
abbrev xS.J (s : xS) : xJ := s.2.1
abbrev xS.R (s : xS) : xR := s.2.2.1
abbrev xS.Z (s : xS) : xR := s.2.2.2.1
abbrev xS.T (s : xS) : xT := s.2.2.2.2
/-- the launch, the heap at the law's start, classes and slots, classes of arrays -/
abbrev xG : Type := Launch × Heap × va_G × (Nat → ClassId)
abbrev xG.l (G : xG) : Launch := G.1
abbrev xG.h0 (G : xG) : Heap := G.2.1
abbrev xG.n0 (G : xG) : Nat := G.2.1.size
abbrev xG.D (G : xG) : va_G := G.2.2.1
abbrev xG.dA (G : xG) : Nat → ClassId := G.2.2.2
/-- a method: name, code, locals, answer, handlers -/
abbrev xM : Type := MethodName × ByteArray × Nat × Option FieldType × List (Nat × Nat × Nat × Nat)
abbrev xM.y (M : xM) : MethodName := M.1
abbrev xM.cc (M : xM) : ByteArray := M.2.1
abbrev xM.nL (M : xM) : Nat := M.2.2.1
abbrev xM.ret (M : xM) : Option FieldType := M.2.2.2.1
abbrev xM.hh (M : xM) : List (Nat × Nat × Nat × Nat) := M.2.2.2.2
def xvOf (f : Nat) (ad : Nat → Nat) (a : Int32) (b : Int64) (r z : Option Nat) : Value := match f with
  | 0 => .int a
  | 1 => .long b
  | 2 => va_re ad r
  | _ => va_re ad z
/-- what a field or element holds -/
def xv (s : xS) (c i k : Nat) : Value := xvOf (xfk c k) (s.T.ad (xtg c k)) (s.I c i k) (s.J c i k) (s.R c i k) (s.Z c i k)
def xNf (c : Nat) : Nat := match vwCl[c]? with
  | some r => r.2.2
  | none => 0
def xAt (G : xG) (s : xS) (H : Heap) (c i : Nat) : Prop :=
  (c < 20 → ∃ r : vw_C, vwCl[c]? = some r ∧ t_OB (s.T.ad c i) (G.D.1 c) r.2.2 (G.D.2 c) H (fun k => xv s c i k)) ∧
  (¬ c < 20 → H[s.T.ad c i]? = some (arrV (G.dA (xta c)) (s.T.len c i) (fun j => xv s c i j)))
/-- the references of a field or element -/
def xrf (s : xS) (c i k : Nat) : Option Nat := if xfk c k = 2 then s.R c i k else if 3 ≤ xfk c k then s.Z c i k else none
def xIn (T : xT) (c i k : Nat) : Prop := if c < 20 then k < xNf c else k < T.len c i
def xWf (s : xS) : Prop :=
  (∀ (c i c' i' : Nat), s.T.lv c i → s.T.lv c' i' → s.T.ad c i = s.T.ad c' i' → c = c' ∧ i = i') ∧
  (∀ (c i k j : Nat), s.T.lv c i → xIn s.T c i k → xrf s c i k = some j → s.T.lv (xtg c k) j) ∧
  (∀ (c i k : Nat), s.T.lv c i → ¬ c < 20 → k < s.T.len c i → (xta c = 2 → fits .byte (.int (s.I c i k)) = true) ∧ (xta c = 3 → s.I c i k = 0 ∨ s.I c i k = 1))
def xH (G : xG) (s : xS) (H : Heap) : Prop :=
  H.size = G.n0 + s.T.nc ∧ (∀ (c i : Nat), s.T.lv c i → (c ≠ 50 → G.n0 ≤ s.T.ad c i) ∧ xAt G s H c i) ∧ xWf s ∧ (∀ q : Nat, q < G.n0 → H[q]? = G.h0[q]?) ∧ s.T.nc ≤ 899237 ∧ s.T.ns ≤ 6392848
def xTys (G : xG) : List (ClassId × FieldType) := (List.range 12).map fun j => (G.dA j, xTyL.getD j .int)
/-- words that don't ride in the lists -/
def xNwb : Cond → Bool
  | .fieldLinkNest .. => true
  | .methodLinkNest .. => true
  | .castable .. => true
  | .arrayOver (.object _) => true
  | _ => false
def xNw : List Cond := lw_tbl.filter xNwb
def xNcL : List (String × String) := [("java/lang/IllegalStateException", "java/lang/IllegalArgumentException"), ("java/lang/IllegalStateException", "java/lang/IndexOutOfBoundsException")]
/-- arrays of arrays: type, type of the rows -/
def xAA (G : xG) (U : State) : Prop := ∀ q ∈ ([(9, 0, .int), (10, 2, .byte), (11, 1, .long)] : List (Nat × Nat × FieldType)), ∃ kA kB : Class, U.vm.classes[G.dA q.1]? = some kA ∧ kA.kind = .array (G.dA q.2.1) (.array q.2.2) ∧ U.vm.classes[G.dA q.2.1]? = some kB ∧ ∃ comp, kB.kind = .array comp q.2.2
theorem xAA.moved {G : xG} {u U : State} (hvm : u.vm.Alike U.vm) (h : xAA G u) : xAA G U := by
  intro q hq
  obtain ⟨kA, kB, h1, h2, h3, comp, h4⟩ := h q hq
  obtain ⟨kA', hkA', hA⟩ := hvm.2.2 _ _ h1
  obtain ⟨kB', hkB', hB⟩ := hvm.2.2 _ _ h3
  exact ⟨kA', kB', hkA', by rw [hA]; exact h2, hkB', comp, by rw [hB]; exact h4⟩
def xK (G : xG) (U : State) : Prop := va_K G.D vwCl (xTys G) U ∧ (∀ w ∈ xNw, w.before #[] U = true) ∧ (∀ q ∈ xNcL, va_Nc q.1 q.2 U) ∧ xAA G U
theorem xK.moved {G : xG} {s U : State} (hW : s.WarmedH U.vm) (h : xK G s) : xK G U := by
  refine ⟨va_K.moved hW.alike h.1, fun w hw => ?_, fun q hq => (h.2.2.1 q hq).moved hW.alike, h.2.2.2.moved hW.alike⟩
  have hb : xNwb w = true := (List.mem_filter.mp hw).2
  have h0 := h.2.1 w hw
  cases w <;> simp only [xNwb, Bool.false_eq_true] at hb
  all_goals first
    | exact va_Nw.warmC hW h0
    | exact va_Nw.warmF hW h0
    | exact va_Nw.warmM hW h0
    | skip
  next ty =>
    cases ty <;> simp only [Bool.false_eq_true] at hb
    exact va_AO.moved hW.alike h0
def xCw (M : xM) : Cond := match M.hh with
  | [] => Cond.code M.y M.cc M.nL M.ret
  | _ => Cond.codeWith M.y M.cc M.nL M.ret M.hh
def xws (M : xM) : List Cond := xCw M :: lw_all
/-- what is fixed all through an invocation -/
def xC (G : xG) (M : xM) (n nc0 ns0 : Nat) (p : Program) (R : Room) (s : State) (m : MethodId) (args : Array Value) (meth : Method) (c : Code) : Prop :=
  p.tables.exec = Jvm.exec ∧ c.code = M.cc ∧ meth.sig.returnType = M.ret ∧ meth.locks = false ∧ c.maxLocals = M.nL ∧ s.vm.findClass M.y.cls = some m.cls ∧ meth.name = M.y.name ∧
  (∀ w ∈ lw_all, w.before args s = true) ∧ c.exceptionTable.toList.map (fun h => (h.startPc, h.endPc, h.handlerPc, h.catchType)) = M.hh ∧
  (n ≤ R.frames ∧ 400 * n ≤ R.locals ∧ 899237 ≤ R.cells + nc0 ∧ 6392848 ≤ R.slots + ns0) ∧ xK G s
/-- the locals: (tag, value), tag 0 unset, else the value's category -/
def xo : Nat × Value := (0, .null)
def xLs (ls : Array Slot) (nL : Nat) (L : List (Nat × Value)) : Prop :=
  ls.size = nL ∧ lv_wf ls ∧ L.length = nL ∧ ∀ (j t : Nat) (w : Value), L[j]? = some (t, w) → t = 0 ∨ (t = w.category ∧ ls[j]? = some (.val w))
/-- the end of an invocation -/
def xE (G : xG) (nc0 ns0 : Nat) (Q : Outcome → xS → Prop) (s : State) (o : Outcome) (t : State) : Prop :=
  ∃ (z : xS) (L : List Loc), xH G z t.heap ∧ Q o z ∧ s.WarmedH t.vm ∧ nc0 ≤ z.T.nc ∧ ns0 ≤ z.T.ns ∧ (∀ q ∈ L, G.n0 ≤ q.base) ∧
    s.sameButNew ({ t with vm := s.vm } : State) L (z.T.nc - nc0) (z.T.ns - ns0)
def xQ (G : xG) (nc0 ns0 : Nat) (Q : Outcome → xS → Prop) (below : List Frame) (s : State) : State → Prop := fun t =>
  ∃ o, t.status = .running ∧ Ended t below o ∧ xE G nc0 ns0 Q s o t
/-- THE JUDGEMENT: at pc with locals L and operand stack st over the abstract heap σ, the method comes to its end with Q -/
def X (G : xG) (M : xM) (n nc0 ns0 : Nat) (Q : Outcome → xS → Prop) (z : xS) (pc : Nat) (L : List (Nat × Value)) (st : List Value) : Prop :=
  ∀ (p : Program) (e : Env) (R : Room) (s : State) (m : MethodId) (args : Array Value) (below : List Frame) (meth : Method) (c : Code), xC G M n nc0 ns0 p R s m args meth c →
  ∀ (H : Heap) (locs : List Loc) (ls : Array Slot), xH G z H → nc0 ≤ z.T.nc → ns0 ≤ z.T.ns → (∀ q ∈ locs, G.n0 ≤ q.base) → xLs ls M.nL L →
    W p G.l e R s m args below meth c H locs (z.T.nc - nc0) (z.T.ns - ns0) (xQ G nc0 ns0 Q below s) (F0 m pc ls st)
/-- A CALL: with arguments as over the abstract heap z, method M comes back with Q -/
def xCall (G : xG) (M : xM) (n : Nat) (as : List Value) (z : xS) (Q : Outcome → xS → Prop) : Prop :=
  MetFree G.l M.y (headSpec (xws M) { frames := n, cells := 899237 - z.T.nc, slots := 6392848 - z.T.ns, locals := 400 * n })
    (fun a U => a = as.toArray ∧ xH G z U.heap ∧ xK G U) (fun _ _ _ _ _ => True) (fun _ st o t => xE G z.T.nc z.T.ns Q st o t)
section XR
variable {G : xG} {M : xM} {n a b : Nat} {Q : Outcome → xS → Prop} {z : xS} {pc : Nat} {L : List (Nat × Value)} {st st' : List Value}
/-- an instruction that leaves the heap and the locals -/
theorem X.one (q : Nat) (h : ∀ {p : Program} {e : Env} {R : Room} {s : State} {m : MethodId} {args : Array Value} {below : List Frame} {meth : Method} {c : Code} {H : Heap} {locs : List Loc} {cells slots : Nat} {Qw : State → Prop} {ls : Array Slot},
      xC G M n a b p R s m args meth c → xH G z H → xLs ls M.nL L → W p G.l e R s m args below meth c H locs cells slots Qw (F0 m q ls st') → W p G.l e R s m args below meth c H locs cells slots Qw (F0 m pc ls st))
    (kk : X G M n a b Q z q L st') : X G M n a b Q z pc L st := by
  intro p e R s m args below meth c hC H locs ls hH h1 h2 hl hL
  exact h hC hH hL (kk p e R s m args below meth c hC H locs ls hH h1 h2 hl hL)
theorem xC.xx {nc0 ns0 : Nat} {p : Program} {R : Room} {s : State} {m : MethodId} {args : Array Value} {meth : Method} {c : Code} (h : xC G M n nc0 ns0 p R s m args meth c) : p.tables.exec = Jvm.exec := h.1
theorem xC.bb {nc0 ns0 : Nat} {p : Program} {R : Room} {s : State} {m : MethodId} {args : Array Value} {meth : Method} {c : Code} (h : xC G M n nc0 ns0 p R s m args meth c) : c.code = M.cc := h.2.1
theorem xC.ww {nc0 ns0 : Nat} {p : Program} {R : Room} {s : State} {m : MethodId} {args : Array Value} {meth : Method} {c : Code} (h : xC G M n nc0 ns0 p R s m args meth c) : ∀ w ∈ lw_all, w.before args s = true := h.2.2.2.2.2.2.2.1
theorem xC.own {nc0 ns0 : Nat} {p : Program} {R : Room} {s : State} {m : MethodId} {args : Array Value} {meth : Method} {c : Code} (h : xC G M n nc0 ns0 p R s m args meth c) : s.vm.findClass M.y.cls = some m.cls := h.2.2.2.2.2.1
theorem xC.kk {nc0 ns0 : Nat} {p : Program} {R : Room} {s : State} {m : MethodId} {args : Array Value} {meth : Method} {c : Code} (h : xC G M n nc0 ns0 p R s m args meth c) : va_K G.D vwCl (xTys G) s := h.2.2.2.2.2.2.2.2.2.2.1
theorem xC.stt {nc0 ns0 : Nat} {p : Program} {R : Room} {s : State} {m : MethodId} {args : Array Value} {meth : Method} {c : Code} (h : xC G M n nc0 ns0 p R s m args meth c) : xK G s := h.2.2.2.2.2.2.2.2.2.2
theorem xC.nw {nc0 ns0 : Nat} {p : Program} {R : Room} {s : State} {m : MethodId} {args : Array Value} {meth : Method} {c : Code} (h : xC G M n nc0 ns0 p R s m args meth c) : ∀ w ∈ xNw, w.before #[] s = true := h.2.2.2.2.2.2.2.2.2.2.2.1
theorem xLs.get {ls : Array Slot} {nL : Nat} (h : xLs ls nL L) {j t : Nat} {w : Value} (hj : L[j]? = some (t + 1, w)) : ls[j]? = some (.val w) := by
  rcases h.2.2.2 j (t + 1) w hj with q | q
  · cases q
  · exact q.2
-- constants
theorem x_iconst {v : Int32} {k : Int} (q : Nat) (hd : decode M.cc pc = .ok (.iconst k, 1)) (hq : pc + 1 = q) (hv : Int32.ofInt k = v) (kk : X G M n a b Q z q L (.int v :: st)) : X G M n a b Q z pc L st := by
  subst hq; exact X.one _ (fun hC _ _ k => lv_iconst hC.xx hC.bb hd hv k) kk
theorem x_bipush {v : Int32} {k : Int} (q : Nat) (hd : decode M.cc pc = .ok (.bipush k, 2)) (hq : pc + 2 = q) (hv : (Int8.ofInt k).toInt32 = v) (kk : X G M n a b Q z q L (.int v :: st)) : X G M n a b Q z pc L st := by
  subst hq; exact X.one _ (fun hC _ _ k => lv_bipush hC.xx hC.bb hd hv k) kk
theorem x_sipush {v : Int32} {k : Int} (q : Nat) (hd : decode M.cc pc = .ok (.sipush k, 3)) (hq : pc + 3 = q) (hv : (Int16.ofInt k).toInt32 = v) (kk : X G M n a b Q z q L (.int v :: st)) : X G M n a b Q z pc L st := by
  subst hq; exact X.one _ (fun hC _ _ k => lv_sipush hC.xx hC.bb hd hv k) kk
theorem x_lconst {v : Int64} {k : Fin 2} (q : Nat) (hd : decode M.cc pc = .ok (.lconst k, 1)) (hq : pc + 1 = q) (hv : Int64.ofNat (k : Nat) = v) (kk : X G M n a b Q z q L (.long v :: st)) : X G M n a b Q z pc L st := by
  subst hq; exact X.one _ (fun hC _ _ k => lv_lconst hC.xx hC.bb hd hv k) kk
theorem x_null (q : Nat) (hd : decode M.cc pc = .ok (.aconst_null, 1)) (hq : pc + 1 = q) (kk : X G M n a b Q z q L (.null :: st)) : X G M n a b Q z pc L st := by
  subst hq; exact X.one _ (fun hC _ _ k => lv_null hC.xx hC.bb hd k) kk
-- loads
theorem x_iload_n {x : Int32} {k : Fin 4} (q : Nat) (hd : decode M.cc pc = .ok (.iload_n k, 1)) (hq : pc + 1 = q) (hl : L[(k : Nat)]? = some (1, .int x)) (kk : X G M n a b Q z q L (.int x :: st)) : X G M n a b Q z pc L st := by
  subst hq; exact X.one _ (fun hC _ hL k => lv_iload_n hC.xx hC.bb hd rfl (hL.get hl) k) kk
theorem x_iload {x : Int32} {k : Nat} (q : Nat) (hd : decode M.cc pc = .ok (.iload k, 2)) (hq : pc + 2 = q) (hl : L[k]? = some (1, .int x)) (kk : X G M n a b Q z q L (.int x :: st)) : X G M n a b Q z pc L st := by
  subst hq; exact X.one _ (fun hC _ hL k => lv_iload hC.xx hC.bb hd (hL.get hl) k) kk
theorem x_lload_n {x : Int64} {k : Fin 4} (q : Nat) (hd : decode M.cc pc = .ok (.lload_n k, 1)) (hq : pc + 1 = q) (hl : L[(k : Nat)]? = some (2, .long x)) (kk : X G M n a b Q z q L (.long x :: st)) : X G M n a b Q z pc L st := by
  subst hq; exact X.one _ (fun hC _ hL k => lv_lload_n hC.xx hC.bb hd rfl (hL.get hl) k) kk
theorem x_lload {x : Int64} {k : Nat} (q : Nat) (hd : decode M.cc pc = .ok (.lload k, 2)) (hq : pc + 2 = q) (hl : L[k]? = some (2, .long x)) (kk : X G M n a b Q z q L (.long x :: st)) : X G M n a b Q z pc L st := by
  subst hq; exact X.one _ (fun hC _ hL k => lv_lload hC.xx hC.bb hd (hL.get hl) k) kk
theorem x_aload_n {x : Nat} {k : Fin 4} (q : Nat) (hd : decode M.cc pc = .ok (.aload_n k, 1)) (hq : pc + 1 = q) (hl : L[(k : Nat)]? = some (1, .ref x)) (kk : X G M n a b Q z q L (.ref x :: st)) : X G M n a b Q z pc L st := by
  subst hq; exact X.one _ (fun hC _ hL k => lv_aload_n hC.xx hC.bb hd rfl (hL.get hl) k) kk
theorem x_aload {x : Nat} {k : Nat} (q : Nat) (hd : decode M.cc pc = .ok (.aload k, 2)) (hq : pc + 2 = q) (hl : L[k]? = some (1, .ref x)) (kk : X G M n a b Q z q L (.ref x :: st)) : X G M n a b Q z pc L st := by
  subst hq; exact X.one _ (fun hC _ hL k => lv_aload hC.xx hC.bb hd (hL.get hl) k) kk
theorem x_aload_nr {f : Nat → Nat} {r : Option Nat} {k : Fin 4} (q : Nat) (hd : decode M.cc pc = .ok (.aload_n k, 1)) (hq : pc + 1 = q) (hl : L[(k : Nat)]? = some (1, va_re f r)) (kk : X G M n a b Q z q L (va_re f r :: st)) : X G M n a b Q z pc L st := by
  subst hq
  cases r with
  | none => exact X.one _ (fun hC _ hL k => lv_aload_nN hC.xx hC.bb hd rfl (hL.get hl) k) kk
  | some j => exact X.one _ (fun hC _ hL k => lv_aload_n hC.xx hC.bb hd rfl (hL.get hl) k) kk
theorem x_aload_r {f : Nat → Nat} {r : Option Nat} {k : Nat} (q : Nat) (hd : decode M.cc pc = .ok (.aload k, 2)) (hq : pc + 2 = q) (hl : L[k]? = some (1, va_re f r)) (kk : X G M n a b Q z q L (va_re f r :: st)) : X G M n a b Q z pc L st := by
  subst hq
  cases r with
  | none => exact X.one _ (fun hC _ hL k => lv_aloadN hC.xx hC.bb hd (hL.get hl) k) kk
  | some j => exact X.one _ (fun hC _ hL k => lv_aload hC.xx hC.bb hd (hL.get hl) k) kk
end XR
