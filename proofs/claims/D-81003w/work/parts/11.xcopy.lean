set_option maxRecDepth 100000
theorem x_nn {z : Int32} (hz : ¬ z < 0) : z.toInt = (z.toNatClampNeg : Int) := by
  have hz0 : (0 : Int) ≤ z.toInt := by
    have := Int32.not_lt.mp hz
    simpa using Int32.le_iff_toInt_le.mp this
  show z.toInt = ((z.toInt.toNat : Nat) : Int)
  omega
/-- the words of System.arraycopy at the entry idx -/
def xCp (own : String) (idx : Nat) : Prop := Cond.methodLink own idx arraycopyName ∈ lw_all ∧ Cond.native arraycopyName ∈ lw_all ∧ Cond.static arraycopyName ∈ lw_all ∧ Cond.initialized "java/lang/System" ∈ lw_all
section XC
variable {G : xG} {M : xM} {n a b : Nat} {Q : Outcome → xS → Prop} {z z' : xS} {pc : Nat} {L : List (Nat × Value)} {st : List Value} {c c0 i i0 k tg tg0 kd kd0 idx : Nat} {I : xI} {J : xJ} {R Z : xR} {T : xT} {ty : FieldType}
theorem x_copyg {sp dp m : Nat} (q : Nat) (hd : decode M.cc pc = .ok (.invokestatic idx, 3)) (hq : pc + 3 = q) (hw : xCp M.y.cls idx) (har0 : xAr c0 ty kd0 tg0) (har : xAr c ty kd tg) (hlv0 : z.T.lv c0 i0) (hlv : z.T.lv c i) (h50 : c ≠ 50) (hn1 : 1 ≤ n) (hst : (st.map fun v => v.category).sum ≤ 100)
    (h31 : sp < 2147483648 ∧ dp < 2147483648 ∧ m < 2147483648) (hs : sp + m ≤ z.T.len c0 i0) (hdl : dp + m ≤ z.T.len c i)
    (hel : (refKind ty = false ∧ (xH G z = xH G z → ∀ j, j < z.T.len c0 i0 → xWf z → fits ty (xv z c0 i0 j) = true ∧ ((∃ x, xv z c0 i0 j = .int x) ∨ ∃ x, xv z c0 i0 j = .long x))) ∨ (tg < 20 ∧ (∃ C Tb N, vwCl[tg]? = some (C, Tb, N) ∧ ty = .object C) ∧ ∀ j, j < m → ∃ r : Option Nat, xv z c0 i0 (sp + j) = va_re (z.T.ad tg) r ∧ ∀ w, r = some w → z.T.lv tg w))
    (hT : z'.T = z.T) (hv : ∀ j, xv z' c i j = va_cpy (fun j => xv z c0 i0 j) (fun j => xv z c i j) sp dp m j) (ho : ∀ c' i' k', ¬ (c' = c ∧ i' = i) → xv z' c' i' k' = xv z c' i' k') (hwf : xWf z → xWf z')
    (kk : X G M n a b Q z' q L st) : X G M n a b Q z pc L (.int (nI m) :: .int (nI dp) :: .ref (z.T.ad c i) :: .int (nI sp) :: .ref (z.T.ad c0 i0) :: st) := by
  subst hq
  intro p e R' s me args below meth cd0 hC H locs ls hH h1 h2 hl hL T hTh X
  subst hTh
  have hsp : ¬ nI sp < 0 := nI_pos (by omega)
  have hdp : ¬ nI dp < 0 := nI_pos (by omega)
  have hmm : ¬ nI m < 0 := nI_pos (by omega)
  have esp : (nI sp).toNatClampNeg = sp := nI_clamp (by omega)
  have edp : (nI dp).toNatClampNeg = dp := nI_clamp (by omega)
  have emm : (nI m).toNatClampNeg = m := nI_clamp (by omega)
  have hc0 := har0.cell hH hlv0
  have hc1 := har.cell hH hlv
  have hT' : z'.T.nc = z.T.nc ∧ z'.T.ns = z.T.ns := by rw [hT]; exact ⟨rfl, rfl⟩
  have hroom := hC.2.2.2.2.2.2.2.2.2.1
  obtain ⟨-, k0, hk0, cm0, hkk0⟩ := har0.arr hC.kk (z.T.len c0 i0) (fun j => xv z c0 i0 j)
  obtain ⟨-, k1, hk1, cm1, hkk1⟩ := har.arr hC.kk (z.T.len c i) (fun j => xv z c i j)
  have hbase := (hH.2.1 c i hlv).1 h50
  obtain ⟨vm', X', step⟩ := X.arraycopy hC.xx hC.own (hC.ww _ hw.1) (hC.ww _ hw.2.1) (hC.ww _ hw.2.2.1) (hC.ww _ hw.2.2.2) (src := z.T.ad c0 i0) (dst := z.T.ad c i) (cs := arrV (G.dA (xta c0)) (z.T.len c0 i0) (fun j => xv z c0 i0 j)) (cd := arrV (G.dA (xta c)) (z.T.len c i) (fun j => xv z c i j)) (srcPos := nI sp) (destPos := nI dp) (n := nI m) hc0 hc1
    (fun _ h => by cases h) (fun _ h => by cases h) (fun h => by cases h) (fun h => by cases h) hk0 hk1 hkk0 hkk1 (by rcases hel with ⟨hp, -⟩ | ⟨-, ⟨C, Tb, N, -, rfl⟩, -⟩ <;> simp [*] <;> rfl) hsp hdp hmm
    (by rw [x_nn hsp, x_nn hmm, esp, emm, arrV_size]; omega)
    (by rw [x_nn hdp, x_nn hmm, edp, emm, arrV_size]; omega)
    (fun vm₁ hal j hj => by
      rw [emm] at hj
      have e : (arrV (G.dA (xta c0)) (z.T.len c0 i0) (fun j => xv z c0 i0 j)).slots.getD ((nI sp).toNatClampNeg + j) .null = xv z c0 i0 (sp + j) := by
        rw [Array.getD_eq_getD_getElem?, esp, arrV_read _ _ (by omega)]
        rfl
      rw [e]
      rcases hel with ⟨hp, hf⟩ | ⟨htg, ⟨C, Tb, N, hvw, hty⟩, hf⟩
      · obtain ⟨f1, f2⟩ := hf rfl (sp + j) (by omega) hH.2.2.1
        rcases f2 with ⟨x, f2⟩ | ⟨x, f2⟩ <;> (rw [f2] at f1 ⊢; exact ⟨f1, trivial⟩)
      · obtain ⟨r, f1, f2⟩ := hf j hj
        rw [f1]
        cases r with
        | none => subst hty; exact ⟨rfl, trivial⟩
        | some w =>
          obtain ⟨r', hr', cellV, g1, g2, g3, -⟩ := (hH.2.1 tg w (f2 w rfl)).2.1 htg
          have hcls := (hC.kk.1 tg _ hvw).2
          have hra := (hC.kk.2 _ _ (xTys_at har.2.1)).2
          rw [har.2.2.1, hty] at hra
          obtain ⟨kA, comp, r1, r2, r3, -⟩ := hra
          have hk1' : s.vm.classes[G.dA (xta c)]? = some k1 := hk1
          cases hk1'.symm.trans r1
          have hc2 : cm1 = comp := by rw [hkk1] at r2; cases r2; rfl
          subst hc2
          have hcomp : cm1 = G.D.1 tg := Option.some.inj (r3.symm.trans hcls.1)
          obtain ⟨kC, hkC, -⟩ := hcls.2
          obtain ⟨kC', hkC', -⟩ := hal.2.2 _ _ hkC
          subst hty
          refine ⟨rfl, cellV, g1, (fun q h => by rw [g3] at h; cases h), ⟨kC', by rw [g2]; exact hkC'⟩, ?_, ?_⟩
          · exact ⟨kC', by rw [hcomp]; exact hkC'⟩
          · show vm₁.assignable _ _ = true
            rw [hal.assignable, g2, hcomp]
            exact va_assign hcls)
    (g := F0 me pc ls (.int (nI m) :: .int (nI dp) :: .ref (z.T.ad c i) :: .int (nI sp) :: .ref (z.T.ad c0 i0) :: st)) rfl (hL.1.trans hC.2.2.2.2.1.symm) (rest := st) rfl (by rw [hC.bb]; exact hd) (by omega) (by
      have hnf : nativeFrameWords "java/lang/System" "arraycopy" 5 + 11 ≤ 200 := by decide
      show 2 * 0 + (st.map fun v => v.category).sum + _ ≤ _
      omega)
  have e1 : copied (arrV (G.dA (xta c0)) (z.T.len c0 i0) (fun j => xv z c0 i0 j)) (arrV (G.dA (xta c)) (z.T.len c i) (fun j => xv z c i j)) (nI sp) (nI dp) (nI m) = arrV (G.dA (xta c)) (z.T.len c i) (va_cpy (fun j => xv z c0 i0 j) (fun j => xv z c i j) sp dp m) := by
    have := va_copied (fun v : Value => v) (G.dA (xta c0)) (G.dA (xta c)) (n0 := z.T.len c0 i0) (n1 := z.T.len c i) (sp := sp) (dp := dp) (n := m) (fun j => xv z c0 i0 j) (fun j => xv z c i j) hs
    unfold copied
    rw [esp, edp, emm]
    exact this
  rw [e1] at X' step
  have hlt : z.T.ad c i < T.heap.size := (Array.getElem?_eq_some_iff.mp hc1).1
  have hH' : xH G z' ((T.setVm vm').setCell (z.T.ad c i) (arrV (G.dA (xta c)) (z.T.len c i) (va_cpy (fun j => xv z c0 i0 j) (fun j => xv z c i j) sp dp m))).heap := by
    have hheap : ((T.setVm vm').setCell (z.T.ad c i) (arrV (G.dA (xta c)) (z.T.len c i) (va_cpy (fun j => xv z c0 i0 j) (fun j => xv z c i j) sp dp m))).heap = T.heap.setIfInBounds (z.T.ad c i) (arrV (G.dA (xta c)) (z.T.len c i) (va_cpy (fun j => xv z c0 i0 j) (fun j => xv z c i j) sp dp m)) := rfl
    rw [hheap]
    refine hH.upd hlv h50 (by simp) (fun q hq => by simp [Array.getElem?_setIfInBounds, Ne.symm hq]) hT ho ⟨fun h => absurd h har.1, fun _ => ?_⟩ (hwf hH.2.2.1)
    rw [hT]
    rw [show (fun j => xv z' c i j) = va_cpy (fun j => xv z c0 i0 j) (fun j => xv z c i j) sp dp m from funext hv]
    simp [Array.getElem?_setIfInBounds, hlt]
  rw [← hT'.1, ← hT'.2] at X'
  obtain ⟨t, a1, b1⟩ := (fun (locs' : List Loc) (Y : Stand p G.l e R' s me args below meth cd0 _ locs' (z'.T.nc - a) (z'.T.ns - b)) (hl' : ∀ q ∈ locs', G.n0 ≤ q.base) => kk p e R' s me args below meth cd0 hC _ locs' ls hH' (by rw [hT'.1]; exact h1) (by rw [hT'.2]; exact h2) hl' hL _ rfl Y) _ X' (fun q hq => by
      rcases List.mem_append.mp hq with h | h
      · exact hl q h
      · obtain ⟨w, -, hw⟩ := List.mem_map.mp h
        rw [← hw]
        exact hbase)
  exact ⟨t, step t a1, b1⟩
theorem xWf.rI (h : xWf (I, J, R, Z, T)) {g : Nat → Int32} (hv : ∀ k, k < T.len c i → (xta c = 2 → fits .byte (.int (g k)) = true) ∧ (xta c = 3 → g k = 0 ∨ g k = 1)) : xWf (xur I c i g, J, R, Z, T) := by
  refine ⟨h.1, fun c i k j hl hi hr => h.2.1 c i k j hl hi hr, fun c' i' k' hl hc hkl => ?_⟩
  by_cases e : c' = c ∧ i' = i
  · obtain ⟨rfl, rfl⟩ := e
    simp only [xS.I, xur_eq]
    exact hv k' hkl
  · simp only [xS.I, xur_n e]
    exact h.2.2 c' i' k' hl hc hkl
theorem xWf.rR (h : xWf (I, J, R, Z, T)) {g : Nat → Option Nat} (hc : ¬ c < 20) (hk : xfk c 0 = 2 → ∀ k j, k < T.len c i → g k = some j → T.lv (xtg c k) j) (hkk : ∀ k, xfk c k = xfk c 0) : xWf (I, J, xur R c i g, Z, T) := by
  refine ⟨h.1, fun c' i' k' j hl hi hr => ?_, h.2.2⟩
  by_cases e : c' = c ∧ i' = i
  · obtain ⟨rfl, rfl⟩ := e
    by_cases h2 : xfk c' k' = 2
    · simp only [xrf, if_pos h2, xS.R, xur_eq] at hr
      simp only [xIn, if_neg hc] at hi
      exact hk ((hkk k').symm.trans h2) k' j hi hr
    · refine h.2.1 c' i' k' j hl hi ?_
      simp only [xrf, if_neg h2] at hr ⊢
      exact hr
  · refine h.2.1 c' i' k' j hl hi ?_
    simp only [xrf, xS.R, xS.Z, xur_n e] at hr ⊢
    exact hr
theorem xv_rI {g : Nat → Int32} {c' i' k' : Nat} (h : ¬ (c' = c ∧ i' = i)) : xv (xur I c i g, J, R, Z, T) c' i' k' = xv (I, J, R, Z, T) c' i' k' := by
  show xvOf _ _ (xur I c i g c' i' k') _ _ _ = _
  rw [xur_n h]; rfl
theorem xv_rJ {g : Nat → Int64} {c' i' k' : Nat} (h : ¬ (c' = c ∧ i' = i)) : xv (I, xur J c i g, R, Z, T) c' i' k' = xv (I, J, R, Z, T) c' i' k' := by
  show xvOf _ _ _ (xur J c i g c' i' k') _ _ = _
  rw [xur_n h]; rfl
theorem xv_rR {g : Nat → Option Nat} {c' i' k' : Nat} (h : ¬ (c' = c ∧ i' = i)) : xv (I, J, xur R c i g, Z, T) c' i' k' = xv (I, J, R, Z, T) c' i' k' := by
  show xvOf _ _ _ _ (xur R c i g c' i' k') _ = _
  rw [xur_n h]; rfl
theorem va_cpy_map {α β : Type} (F : α → β) (f g : Nat → α) (sp dp m j : Nat) : F (va_cpy f g sp dp m j) = va_cpy (fun j => F (f j)) (fun j => F (g j)) sp dp m j := by
  unfold va_cpy; split <;> rfl
/-- ints, bytes, booleans are copied -/
theorem x_copyi {sp dp m : Nat} (q : Nat) (hd : decode M.cc pc = .ok (.invokestatic idx, 3)) (hq : pc + 3 = q) (hw : xCp M.y.cls idx) (har0 : xAr c0 ty 0 tg0) (har : xAr c ty 0 tg) (hty : ty = .int ∨ (ty = .byte ∧ xta c = 2 ∧ xta c0 = 2)) (ht3 : xta c ≠ 3 ∧ (ty = .int → xta c ≠ 2)) (hlv0 : T.lv c0 i0) (hlv : T.lv c i) (h50 : c ≠ 50) (hn1 : 1 ≤ n) (hst : (st.map fun v => v.category).sum ≤ 100)
    (h31 : sp < 2147483648 ∧ dp < 2147483648 ∧ m < 2147483648) (hs : sp + m ≤ T.len c0 i0) (hdl : dp + m ≤ T.len c i)
    (kk : X G M n a b Q (xur I c i (va_cpy (I c0 i0) (I c i) sp dp m), J, R, Z, T) q L st) : X G M n a b Q (I, J, R, Z, T) pc L (.int (nI m) :: .int (nI dp) :: .ref (T.ad c i) :: .int (nI sp) :: .ref (T.ad c0 i0) :: st) := by
  have e0 : ∀ j, xv (I, J, R, Z, T) c0 i0 j = .int (I c0 i0 j) := fun j => xv_i (har0.2.2.2.1 j)
  have e1 : ∀ j, xv (I, J, R, Z, T) c i j = .int (I c i j) := fun j => xv_i (har.2.2.2.1 j)
  have hwf0 : ∀ w : xWf (I, J, R, Z, T), ∀ j, j < T.len c0 i0 → fits ty (.int (I c0 i0 j)) = true := by
    intro w j hj
    rcases hty with rfl | ⟨rfl, -, h⟩
    · rfl
    · exact (w.2.2 c0 i0 j hlv0 har0.1 hj).1 h
  refine x_copyg (z := (I, J, R, Z, T)) (z' := (xur I c i (va_cpy (I c0 i0) (I c i) sp dp m), J, R, Z, T)) q hd hq hw har0 har hlv0 hlv h50 hn1 hst h31 hs hdl (Or.inl ⟨by rcases hty with rfl | ⟨rfl, -⟩ <;> rfl, fun _ j hj w => ⟨by rw [e0]; exact hwf0 w j hj, Or.inl ⟨_, e0 j⟩⟩⟩) rfl ?_ (fun _ _ _ h => xv_rI h) (fun w => w.rI fun k hkl => ⟨fun h => ?_, fun h => absurd h ht3.1⟩) kk
  · intro j
    rw [xv_i (har.2.2.2.1 j)]
    show Value.int (xur I c i _ c i j) = _
    rw [xur_eq, va_cpy_map Value.int]
    simp only [e0, e1]
  · have hb : ty = .byte := by
      rcases hty with h2 | h2
      · exact absurd h (ht3.2 h2)
      · exact h2.1
    unfold va_cpy
    split
    · rw [← hb]; exact hwf0 w _ (by omega)
    · exact (w.2.2 c i k hlv har.1 hkl).1 h
theorem x_copyl {sp dp m : Nat} (q : Nat) (hd : decode M.cc pc = .ok (.invokestatic idx, 3)) (hq : pc + 3 = q) (hw : xCp M.y.cls idx) (har0 : xAr c0 .long 1 tg0) (har : xAr c .long 1 tg) (hlv0 : T.lv c0 i0) (hlv : T.lv c i) (h50 : c ≠ 50) (hn1 : 1 ≤ n) (hst : (st.map fun v => v.category).sum ≤ 100)
    (h31 : sp < 2147483648 ∧ dp < 2147483648 ∧ m < 2147483648) (hs : sp + m ≤ T.len c0 i0) (hdl : dp + m ≤ T.len c i)
    (kk : X G M n a b Q (I, xur J c i (va_cpy (J c0 i0) (J c i) sp dp m), R, Z, T) q L st) : X G M n a b Q (I, J, R, Z, T) pc L (.int (nI m) :: .int (nI dp) :: .ref (T.ad c i) :: .int (nI sp) :: .ref (T.ad c0 i0) :: st) := by
  have e0 : ∀ j, xv (I, J, R, Z, T) c0 i0 j = .long (J c0 i0 j) := fun j => xv_j (har0.2.2.2.1 j)
  have e1 : ∀ j, xv (I, J, R, Z, T) c i j = .long (J c i j) := fun j => xv_j (har.2.2.2.1 j)
  refine x_copyg (z := (I, J, R, Z, T)) (z' := (I, xur J c i (va_cpy (J c0 i0) (J c i) sp dp m), R, Z, T)) q hd hq hw har0 har hlv0 hlv h50 hn1 hst h31 hs hdl (Or.inl ⟨rfl, fun _ j _ w => ⟨by rw [e0]; rfl, Or.inr ⟨_, e0 j⟩⟩⟩) rfl ?_ (fun _ _ _ h => xv_rJ h) (fun w => w.setJ) kk
  intro j
  rw [xv_j (har.2.2.2.1 j)]
  show Value.long (xur J c i _ c i j) = _
  rw [xur_eq, va_cpy_map Value.long]
  simp only [e0, e1]
theorem x_copyr {sp dp m : Nat} (q : Nat) (hd : decode M.cc pc = .ok (.invokestatic idx, 3)) (hq : pc + 3 = q) (hw : xCp M.y.cls idx) (har0 : xAr c0 ty 2 tg) (har : xAr c ty 2 tg) (htg : tg < 20 ∧ ∃ C Tb N, vwCl[tg]? = some (C, Tb, N) ∧ ty = .object C) (hlv0 : T.lv c0 i0) (hlv : T.lv c i) (h50 : c ≠ 50) (hn1 : 1 ≤ n) (hst : (st.map fun v => v.category).sum ≤ 100)
    (h31 : sp < 2147483648 ∧ dp < 2147483648 ∧ m < 2147483648) (hs : sp + m ≤ T.len c0 i0) (hdl : dp + m ≤ T.len c i) (hrl : ∀ j w, R c0 i0 j = some w → j < T.len c0 i0 → T.lv tg w)
    (kk : X G M n a b Q (I, J, xur R c i (va_cpy (R c0 i0) (R c i) sp dp m), Z, T) q L st) : X G M n a b Q (I, J, R, Z, T) pc L (.int (nI m) :: .int (nI dp) :: .ref (T.ad c i) :: .int (nI sp) :: .ref (T.ad c0 i0) :: st) := by
  have e0 : ∀ j, xv (I, J, R, Z, T) c0 i0 j = va_re (T.ad tg) (R c0 i0 j) := fun j => by rw [xv_r (har0.2.2.2.1 j), har0.2.2.2.2 j]
  have e1 : ∀ j, xv (I, J, R, Z, T) c i j = va_re (T.ad tg) (R c i j) := fun j => by rw [xv_r (har.2.2.2.1 j), har.2.2.2.2 j]
  refine x_copyg (z := (I, J, R, Z, T)) (z' := (I, J, xur R c i (va_cpy (R c0 i0) (R c i) sp dp m), Z, T)) q hd hq hw har0 har hlv0 hlv h50 hn1 hst h31 hs hdl (Or.inr ⟨htg.1, htg.2, fun j hj => ⟨R c0 i0 (sp + j), e0 _, fun w h => hrl _ w h (by show sp + j < T.len c0 i0; omega)⟩⟩) rfl ?_ (fun _ _ _ h => xv_rR h) (fun w => w.rR har.1 (fun _ k j hk hj => ?_) (fun k => by rw [har.2.2.2.1, har.2.2.2.1])) kk
  · intro j
    rw [xv_r (har.2.2.2.1 j), har.2.2.2.2 j]
    show va_re (T.ad tg) (xur R c i _ c i j) = _
    rw [xur_eq, va_cpy_map (va_re (T.ad tg))]
    simp only [e0, e1]
  · rw [har.2.2.2.2]
    unfold va_cpy at hj
    split at hj
    · exact hrl _ j hj (by omega)
    · have := w.2.1 c i k j hlv (by simp only [xIn, if_neg har.1]; exact hk) (by simp only [xrf, har.2.2.2.1 k]; exact hj)
      rw [har.2.2.2.2] at this
      exact this
end XC
section XM
variable {G : xG} {M : xM} {n a b : Nat} {Q : Outcome → xS → Prop} {z z' : xS} {pc : Nat} {L : List (Nat × Value)} {st as : List Value} {I : xI} {J : xJ} {R Z : xR} {T : xT}
theorem xent_get : ∀ (as : List Value) (off j t : Nat) (w : Value), (xent as)[j]? = some (t, w) → t = 0 ∨ (t = w.category ∧ (off + j, w) ∈ lv_args off as) := by
  intro as
  induction as with
  | nil => intro off j t w h; simp [xent] at h
  | cons v vs ih =>
    intro off j t w h
    by_cases hc : v.category = 2
    · simp only [xent, if_pos hc] at h
      simp only [lv_args, if_pos hc]
      match j, h with
      | 0, h => simp at h; obtain ⟨rfl, rfl⟩ := h; exact Or.inr ⟨hc.symm, List.mem_cons_self⟩
      | 1, h => simp [xo] at h; exact Or.inl h.1.symm
      | j + 2, h =>
        simp at h
        rcases ih (off + 2) j t w h with q | ⟨q1, q2⟩
        · exact Or.inl q
        · exact Or.inr ⟨q1, List.mem_cons_of_mem _ (by rw [show off + (j + 2) = off + 2 + j by omega]; exact q2)⟩
    · simp only [xent, if_neg hc] at h
      simp only [lv_args, if_neg hc]
      match j, h with
      | 0, h =>
        simp at h; obtain ⟨rfl, rfl⟩ := h
        refine Or.inr ⟨?_, List.mem_cons_self⟩
        rcases lv_cat v with q | q
        · exact q.symm
        · exact absurd q hc
      | j + 1, h =>
        simp at h
        rcases ih (off + 1) j t w h with q | ⟨q1, q2⟩
        · exact Or.inl q
        · exact Or.inr ⟨q1, List.mem_cons_of_mem _ (by rw [show off + (j + 1) = off + 1 + j by omega]; exact q2)⟩
theorem x_met {L0 : List (Nat × Value)} (hp : plainFor M.y = true) (hL0 : xent as ++ List.replicate (M.nL - (lg_sl as).length) xo = L0) (hlen : (lg_sl as).length ≤ M.nL ∧ L0.length = M.nL) (k : X G M n z.T.nc z.T.ns Q z 0 L0 []) : xCall G M n as z Q := by
  refine x_body hp (L0 := L0) (fun ls hls => ?_) k
  rw [lg_entry_eq] at hls
  subst hls
  obtain ⟨h1, h2, h3⟩ := lv_entry as (n := M.nL) hlen.1
  refine ⟨h1, h2, hlen.2, fun j t w hj => ?_⟩
  subst hL0
  rw [List.getElem?_append] at hj
  split at hj
  · rcases xent_get as 0 j t w hj with q | ⟨q1, q2⟩
    · exact Or.inl q
    · exact Or.inr ⟨q1, h3 (j, w) (by rw [show j = 0 + j by omega]; exact q2)⟩
  · rw [List.getElem?_replicate] at hj
    split at hj
    · simp [xo] at hj; exact Or.inl hj.1.symm
    · cases hj
theorem x_athrow {r : Nat} (hd : decode M.cc pc = .ok (.athrow, 1)) (hnh : xNoH M pc) (hq : Q (.threw r) z) : X G M n a b Q z pc L (.ref r :: st) := by
  intro p e R s m args below meth c hC H locs ls hH h1 h2 hl hL T hT X
  have hlocks : meth.locks = false := hC.2.2.2.1
  obtain ⟨r1, r2, r3, r4, r5⟩ := X.athrowLeaves hC.xx (g := F0 m pc ls (.ref r :: st)) rfl rfl rfl (hnh.out hC) (a := r) (rest := st) rfl (by rw [hC.bb]; exact hd)
  exact ⟨_, r1, .threw r, r2, r3, z, locs, by show xH G z T.heap; rw [hT]; exact hH, hq, r4, h1, h2, hl, r5⟩
theorem x_wf (k : xWf z → X G M n a b Q z pc L st) : X G M n a b Q z pc L st := by
  intro p e R s m args below meth c hC H locs ls hH h1 h2 hl hL
  exact k hH.2.2.1 p e R s m args below meth c hC H locs ls hH h1 h2 hl hL
theorem xH.eqv {H : Heap} {I' : xI} {J' : xJ} {R' : xR} (hI : ∀ c i k, T.lv c i → xIn T c i k → I' c i k = I c i k) (hJ : ∀ c i k, T.lv c i → xIn T c i k → J' c i k = J c i k) (hR : ∀ c i k, T.lv c i → xIn T c i k → R' c i k = R c i k) (h : xH G (I, J, R, Z, T) H) : xH G (I', J', R', Z, T) H := by
  obtain ⟨h1, h2, ⟨h3, h4, h5⟩, h6⟩ := h
  have ev : ∀ c i k, T.lv c i → xIn T c i k → xv (I', J', R', Z, T) c i k = xv (I, J, R, Z, T) c i k := fun c i k hl hk => by
    show xvOf _ _ (I' c i k) (J' c i k) (R' c i k) _ = xvOf _ _ (I c i k) (J c i k) (R c i k) _
    rw [hI c i k hl hk, hJ c i k hl hk, hR c i k hl hk]
  refine ⟨h1, fun c i hl => ⟨(h2 c i hl).1, fun hc => ?_, fun hc => ?_⟩, ⟨h3, fun c i k j hl hk hr => h4 c i k j hl hk ?_, fun c i k hl hc hk => ?_⟩, h6⟩
  · obtain ⟨r, hr, ho⟩ := (h2 c i hl).2.1 hc
    refine ⟨r, hr, ho.to fun k hk => (ev c i k hl ?_).symm⟩
    have hk' : xIn T c i k ↔ k < r.2.2 := by simp only [xIn, if_pos hc, xNf, hr]
    exact hk'.mpr hk
  · refine ((h2 c i hl).2.2 hc).trans ?_
    have : ∀ (f g : Nat → Value) (m : Nat), (∀ j, j < m → f j = g j) → arrV (G.dA (xta c)) m f = arrV (G.dA (xta c)) m g := by
      intro f g m h
      unfold arrV
      congr 1
      apply Array.ext
      · simp
      · intro j h1 h2; simp at h1; simp [h j h1]
    exact congrArg some (this _ _ _ fun j hj => (ev c i j hl (by simp only [xIn, if_neg hc]; exact hj)).symm)
  · simp only [xrf, xS.R, xS.Z] at hr ⊢
    rw [hR c i k hl hk] at hr
    exact hr
  · have hk2 : xIn T c i k := by simp only [xIn, if_neg hc]; exact hk
    have := h5 c i k hl hc hk
    simp only [xS.I] at this ⊢
    rw [hI c i k hl hk2]
    exact this
/-- the abstract heap may be changed where nothing is -/
theorem x_eqv {I' : xI} {J' : xJ} {R' : xR} (hI : ∀ c i k, T.lv c i → xIn T c i k → I' c i k = I c i k) (hJ : ∀ c i k, T.lv c i → xIn T c i k → J' c i k = J c i k) (hR : ∀ c i k, T.lv c i → xIn T c i k → R' c i k = R c i k) (k : X G M n a b Q (I', J', R', Z, T) pc L st) : X G M n a b Q (I, J, R, Z, T) pc L st := by
  intro p e R0 s m args below meth c hC H locs ls hH h1 h2 hl hL
  exact k p e R0 s m args below meth c hC H locs ls (hH.eqv hI hJ hR) h1 h2 hl hL
theorem x_eqI {I' : xI} (hI : ∀ c i k, T.lv c i → xIn T c i k → I' c i k = I c i k) (k : X G M n a b Q (I', J, R, Z, T) pc L st) : X G M n a b Q (I, J, R, Z, T) pc L st := x_eqv hI (fun _ _ _ _ _ => rfl) (fun _ _ _ _ _ => rfl) k
theorem x_eqR {R' : xR} (hR : ∀ c i k, T.lv c i → xIn T c i k → R' c i k = R c i k) (k : X G M n a b Q (I, J, R', Z, T) pc L st) : X G M n a b Q (I, J, R, Z, T) pc L st := x_eqv (fun _ _ _ _ _ => rfl) (fun _ _ _ _ _ => rfl) hR k
theorem xCall.mono {Q' : Outcome → xS → Prop} (h : xCall G M n as z Q) (hq : ∀ o z', Q o z' → Q' o z') : xCall G M n as z Q' := by
  intro p e ha hc hk s m args below hf hap hP hK
  obtain ⟨k, o, h1, h2, h3, z', L, h4, h5, h6⟩ := h p e ha hc hk s m args below hf hap hP hK
  exact ⟨k, o, h1, h2, h3, z', L, h4, hq _ _ h5, h6⟩
end XM
section XQ
variable {G : xG} {M : xM} {n a b : Nat} {Q : Outcome → xS → Prop} {z z' : xS} {pc : Nat} {L : List (Nat × Value)} {st as : List Value} {I : xI} {J : xJ} {R Z : xR} {T : xT}
theorem va_re_cmp {T : xT} {c : Nat} {rx ry : Option Nat} (hinj : ∀ i j, T.lv c i → T.lv c j → T.ad c i = T.ad c j → i = j) (hx : ∀ i, rx = some i → T.lv c i) (hy : ∀ i, ry = some i → T.lv c i) : rx.map (T.ad c) = ry.map (T.ad c) ↔ rx = ry := by
  constructor
  · intro h
    cases rx with
    | none => cases ry with
      | none => rfl
      | some j => simp at h
    | some i => cases ry with
      | none => simp at h
      | some j => simp at h; rw [hinj i j (hx i rfl) (hy j rfl) h]
  · intro h; rw [h]
theorem x_acmp_eq {c : Nat} {rx ry : Option Nat} {off : Int} (t q : Nat) (hd : decode M.cc pc = .ok (.if_acmp .eq off, 3)) (ht : (pc : Int) + off = (t : Int)) (hq : pc + 3 = q) (hx : ∀ i, rx = some i → T.lv c i) (hy : ∀ i, ry = some i → T.lv c i)
    (kt : rx = ry → X G M n a b Q (I, J, R, Z, T) t L st) (kf : ¬ rx = ry → X G M n a b Q (I, J, R, Z, T) q L st) : X G M n a b Q (I, J, R, Z, T) pc L (va_re (T.ad c) ry :: va_re (T.ad c) rx :: st) := by
  subst hq
  refine x_wf fun hw => ?_
  have key := va_re_cmp (T := T) (c := c) (rx := rx) (ry := ry) (fun i j h1 h2 h3 => (hw.1 c i c j h1 h2 h3).2) hx hy
  exact X.two (c1 := rx = ry) (c2 := ¬ rx = ry) (fun hC _ _ k1 k2 => lv_acmp_eq hC.xx hC.bb hd ht (fun h => k1 (key.mp h)) (fun h => k2 (fun g => h (key.mpr g)))) kt kf
theorem x_acmp_ne {c : Nat} {rx ry : Option Nat} {off : Int} (t q : Nat) (hd : decode M.cc pc = .ok (.if_acmp .ne off, 3)) (ht : (pc : Int) + off = (t : Int)) (hq : pc + 3 = q) (hx : ∀ i, rx = some i → T.lv c i) (hy : ∀ i, ry = some i → T.lv c i)
    (kt : ¬ rx = ry → X G M n a b Q (I, J, R, Z, T) t L st) (kf : rx = ry → X G M n a b Q (I, J, R, Z, T) q L st) : X G M n a b Q (I, J, R, Z, T) pc L (va_re (T.ad c) ry :: va_re (T.ad c) rx :: st) := by
  subst hq
  refine x_wf fun hw => ?_
  have key := va_re_cmp (T := T) (c := c) (rx := rx) (ry := ry) (fun i j h1 h2 h3 => (hw.1 c i c j h1 h2 h3).2) hx hy
  exact X.two (c1 := ¬ rx = ry) (c2 := rx = ry) (fun hC _ _ k1 k2 => lv_acmp_ne hC.xx hC.bb hd ht (fun h => k1 (fun g => h (key.mpr g))) (fun h => k2 (key.mp h))) kt kf
end XQ
