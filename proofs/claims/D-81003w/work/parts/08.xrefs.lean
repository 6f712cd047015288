set_option maxRecDepth 100000
theorem x_assignArr {s : State} {cB : ClassId} {kB : Class} {comp : ClassId} {t : FieldType} (h : s.vm.classes[cB]? = some kB) (hk : kB.kind = .array comp t) : s.vm.assignable cB cB = true := by
  show Vm.assignableAux s.vm (255 + 1) cB cB = true
  unfold Vm.assignableAux
  rw [show (cB == cB) = true from beq_self_eq_true cB]
  rfl
section XB
variable {p : Program} {l : Launch} {e : Env} {R : Room} {s : State} {m : MethodId} {args : Array Value} {below : List Frame} {meth : Method} {c : Code} {H : Heap} {locs : List Loc} {cells slots : Nat} {Q : State → Prop} {cc : ByteArray}
theorem x_aastN0 {T : State} (X : Stand p l e R s m args below meth c T locs cells slots) (hexec : p.tables.exec = Jvm.exec) {a : Addr} {cell : Cell} {t : FieldType} (ht : t.isReference = true) {j : Int32} (hcell : T.heap[a]? = some cell) (harr : s.isArrayOf cell t) (hknown : cell.vm ≠ .unknown)
    (hin : ¬ (j < 0 ∨ cell.slots.size ≤ j.toNatClampNeg))
    {g : JFrame} (hg : g.method = m) {rest : List Value} (hstack : g.stack = .null :: .int j :: .ref a :: rest) (hdg : decode c.code g.pc = .ok (.aastore, 1)) :
    Stand p l e R s m args below meth c (T.setCell a (cell.setSlot j.toNatClampNeg .null)) (locs ++ [⟨a, j.toNatClampNeg⟩]) cells slots ∧
      ∀ target, Steps p.tables e below ((T.setCell a (cell.setSlot j.toNatClampNeg .null)).setTop { g with pc := g.pc + 1, stack := rest }) target → Steps p.tables e below (T.setTop g) target := by
  have hT := State.isArrayOf_alike X.warmed.alike harr
  have hfit : T.fitsSlot cell.cls cell.vm j.toNatClampNeg .null = true := by
    obtain ⟨hobj, k, hk, comp, hkind⟩ := hT
    cases t <;> simp [FieldType.isReference] at ht <;> (cases hvm : cell.vm <;> first | exact absurd hvm (hobj _) | simp [State.fitsSlot, State.slotType?, hk, hkind, fits])
  refine ⟨X.stored hcell _ _, fun target hrest => ?_⟩
  subst hg
  jvm_step X.here [hexec, hdg]
  refine aastore.wp_of_null (c := cell) (t := t) X.here.top hstack hcell hT hin hknown (Nat.not_le.mp fun q => hin (Or.inr q)) hfit ?_
  intro acts
  rw [afterInstr_ok]
  exact hrest
theorem x_WaastN (hexec : p.tables.exec = Jvm.exec) (hb : c.code = cc) {a : Addr} {cell : Cell} {t : FieldType} (ht : t.isReference = true) {j : Int32} (hcell : H[a]? = some cell) (harr : s.isArrayOf cell t) (hknown : cell.vm ≠ .unknown) (hin : ¬ (j < 0 ∨ cell.slots.size ≤ j.toNatClampNeg))
    {g : JFrame} (hg : g.method = m) {rest : List Value} (hstack : g.stack = .null :: .int j :: .ref a :: rest) (hdg : decode cc g.pc = .ok (.aastore, 1))
    (kk : ∀ H' : Heap, H'[a]? = some (cell.setSlot j.toNatClampNeg .null) → H'.size = H.size → (∀ q, q ≠ a → H'[q]? = H[q]?) → W p l e R s m args below meth c H' (locs ++ [⟨a, j.toNatClampNeg⟩]) cells slots Q { g with pc := g.pc + 1, stack := rest }) :
    W p l e R s m args below meth c H locs cells slots Q g := by
  intro T hT X
  have hT' : T.heap[a]? = some cell := by rw [hT]; exact hcell
  obtain ⟨X', st⟩ := x_aastN0 X hexec ht hT' harr hknown hin hg hstack (by rw [hb]; exact hdg)
  have hlt : a < T.heap.size := (Array.getElem?_eq_some_iff.mp hT').1
  obtain ⟨t', a1, b1⟩ := kk _ (heapAt_setCell_self _ hlt) (by rw [size_setCell, hT]) (fun q hq => by rw [heapAt_setCell_ne _ (Ne.symm hq), hT]) (T.setCell a (cell.setSlot j.toNatClampNeg .null)) rfl X'
  exact ⟨t', st t' a1, b1⟩
end XB
section XA
variable {G : xG} {M : xM} {n a b : Nat} {Q : Outcome → xS → Prop} {z z' : xS} {pc : Nat} {L L' : List (Nat × Value)} {st st' : List Value} {H H1 : Heap} {c i k tg : Nat} {I : xI} {J : xJ} {R Z : xR} {T : xT} {ty : FieldType}
/-- a reference may be stored into an array of this type: an object of the class tg, or a row of the array class tg -/
def xSt (ty : FieldType) (t tg : Nat) : Prop := (tg < 20 ∧ ∃ C Tb N, vwCl[tg]? = some (C, Tb, N) ∧ ty = .object C) ∨ (¬ tg < 20 ∧ ∃ ty', (t, xta tg, ty') ∈ ([(9, 0, .int), (10, 2, .byte), (11, 1, .long)] : List (Nat × Nat × FieldType)) ∧ ty = .array ty')
theorem x_astg {kd j : Nat} {v : Option Nat} (q : Nat) (hd : decode M.cc pc = .ok (.aastore, 1)) (hq : pc + 1 = q) (har : xAr c ty kd tg) (hst : xSt ty (xta c) tg) (h50 : c ≠ 50) (hlv : z.T.lv c i) (hj : j < z.T.len c i ∧ j < 2147483648) (hvl : ∀ w, v = some w → z.T.lv tg w)
    (hT : z'.T = z.T) (hv : xv z' c i j = va_re (z.T.ad tg) v) (ho : ∀ c' i' k', ¬ (c' = c ∧ i' = i ∧ k' = j) → xv z' c' i' k' = xv z c' i' k') (hwf : xWf z → xWf z')
    (kk : X G M n a b Q z' q L st) : X G M n a b Q z pc L (va_re (z.T.ad tg) v :: .int (nI j) :: .ref (z.T.ad c i) :: st) := by
  subst hq
  obtain ⟨hvi, hcl⟩ := x_vin hj
  have hj0 : ¬ nI j < 0 := fun q => hvi (Or.inl q)
  have hty : ty.isReference = true := by rcases hst with ⟨-, C, Tb, N, -, rfl⟩ | ⟨-, ty', -, rfl⟩ <;> rfl
  have hT' : z'.T.nc = z.T.nc ∧ z'.T.ns = z.T.ns := by rw [hT]; exact ⟨rfl, rfl⟩
  intro p e R' s m args below meth c0 hC H locs ls hH h1 h2 hl hL
  have go : ∀ (H' : Heap) (locs' : List Loc), xH G z' H' → (∀ q ∈ locs', G.n0 ≤ q.base) → W p G.l e R' s m args below meth c0 H' locs' (z.T.nc - a) (z.T.ns - b) (xQ G a b Q below s) (F0 m (pc + 1) ls st) := by
    intro H' locs' hH' hl'
    have := kk p e R' s m args below meth c0 hC H' locs' ls hH' (by rw [hT'.1]; exact h1) (by rw [hT'.2]; exact h2) hl' hL
    rw [hT'.1, hT'.2] at this
    exact this
  have hbase := (hH.2.1 c i hlv).1 h50
  cases v with
  | none =>
    refine x_WaastN hC.xx hC.bb hty (har.cell hH hlv) (har.arr hC.kk _ _) (fun q => by cases q) (by rw [arrV_size]; exact hvi) rfl rfl hd fun H1 e1 e2 e3 => ?_
    rw [hcl] at e1
    exact go H1 _ (hH.ast har hlv h50 e1 e2 e3 hT hv ho (hwf hH.2.2.1)) (xLs.loc hl hbase)
  | some w =>
    have hlw := hvl w rfl
    have hmain : ∃ (kA kcomp kv : Class) (comp : ClassId) (cv : Cell), s.vm.classes[G.dA (xta c)]? = some kA ∧ kA.kind = .array comp ty ∧ s.vm.classes[comp]? = some kcomp ∧ H[z.T.ad tg w]? = some cv ∧ cv.vm = .none ∧ s.vm.classes[cv.cls]? = some kv ∧ s.vm.assignable cv.cls comp = true := by
      rcases hst with ⟨h20, C, Tb, N, hcl', hC'⟩ | ⟨h20, ty', hmem, hty'⟩
      · obtain ⟨r', hr', cellV, g1, g2, g3, -⟩ := (hH.2.1 tg w hlw).2.1 h20
        have hcls := (hC.kk.1 tg _ hcl').2
        have hra := (hC.kk.2 _ _ (xTys_at har.2.1)).2
        rw [har.2.2.1, hC'] at hra
        obtain ⟨kA, comp, k1, k2, k3, -⟩ := hra
        have hcomp : comp = G.D.1 tg := Option.some.inj (k3.symm.trans hcls.1)
        subst hcomp
        obtain ⟨kC, hkC, -⟩ := hcls.2
        exact ⟨kA, kC, kC, _, cellV, k1, by rw [hC']; exact k2, hkC, g1, g3, by rw [g2]; exact hkC, by rw [g2]; exact va_assign hcls⟩
      · obtain ⟨kA, kB, k1, k2, k3, comp, k4⟩ := hC.stt.2.2.2 _ hmem
        exact ⟨kA, kB, kB, _, _, k1, by rw [hty']; exact k2, k3, (hH.2.1 tg w hlw).2.2 h20, rfl, k3, x_assignArr k3 k4⟩
    obtain ⟨kA, kcomp, kv, comp, cv, g1, g2, g3, g4, g5, g6, g7⟩ := hmain
    refine W.aast hC.xx hC.bb (har.cell hH hlv) (fun q h => by cases h) (fun h => by cases h) g1 g2 hty g3 ⟨hj0, by rw [arrV_size, hcl]; exact hj.1⟩ g4 (fun q h => by rw [g5] at h; cases h) g6 g7 rfl rfl hd fun H1 e1 e2 e3 => ?_
    rw [hcl] at e1
    exact go H1 _ (hH.ast har hlv h50 e1 e2 e3 hT hv ho (hwf hH.2.2.1)) (xLs.loc hl hbase)
theorem x_astr {j : Nat} {v : Option Nat} (q : Nat) (hd : decode M.cc pc = .ok (.aastore, 1)) (hq : pc + 1 = q) (har : xAr c ty 2 tg) (hst : xSt ty (xta c) tg) (h50 : c ≠ 50) (hlv : T.lv c i) (hj : j < T.len c i ∧ j < 2147483648) (hvl : ∀ w, v = some w → T.lv tg w)
    (kk : X G M n a b Q (I, J, xu R c i j v, Z, T) q L st) : X G M n a b Q (I, J, R, Z, T) pc L (va_re (T.ad tg) v :: .int (nI j) :: .ref (T.ad c i) :: st) :=
  x_astg (z := (I, J, R, Z, T)) (z' := (I, J, xu R c i j v, Z, T)) q hd hq har hst h50 hlv hj hvl rfl (by rw [xv_r (har.2.2.2.1 j), har.2.2.2.2 j]; show va_re _ (xu R c i j v c i j) = _; rw [xu_eq]) (fun _ _ _ h => xv_uR h) (fun h => h.setR (by rw [har.2.2.2.2 j]; exact hvl)) kk
theorem x_astz {j : Nat} {v : Option Nat} (q : Nat) (hd : decode M.cc pc = .ok (.aastore, 1)) (hq : pc + 1 = q) (har : xAr c ty 3 tg) (hst : xSt ty (xta c) tg) (h50 : c ≠ 50) (hlv : T.lv c i) (hj : j < T.len c i ∧ j < 2147483648) (hvl : ∀ w, v = some w → T.lv tg w)
    (kk : X G M n a b Q (I, J, R, xu Z c i j v, T) q L st) : X G M n a b Q (I, J, R, Z, T) pc L (va_re (T.ad tg) v :: .int (nI j) :: .ref (T.ad c i) :: st) :=
  x_astg (z := (I, J, R, Z, T)) (z' := (I, J, R, xu Z c i j v, T)) q hd hq har hst h50 hlv hj hvl rfl (by rw [xv_z (har.2.2.2.1 j), har.2.2.2.2 j]; show va_re _ (xu Z c i j v c i j) = _; rw [xu_eq]) (fun _ _ _ h => xv_uZ h) (fun h => h.setZ (by rw [har.2.2.2.2 j]; exact hvl)) kk
end XA
