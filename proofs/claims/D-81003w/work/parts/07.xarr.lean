set_option maxRecDepth 100000
/-- arrays of the class c: type of the elements, kind, target -/
def xAr (c : Nat) (ty : FieldType) (kd tg : Nat) : Prop := ¬ c < 20 ∧ xta c < 12 ∧ xTyL.getD (xta c) .int = ty ∧ (∀ k, xfk c k = kd) ∧ (∀ k, xtg c k = tg)
theorem xTys_at {G : xG} {t : Nat} (h : t < 12) : (xTys G)[t]? = some (G.dA t, xTyL.getD t .int) := by
  unfold xTys
  rw [List.getElem?_map, List.getElem?_range h]; rfl
theorem x_vin {j N : Nat} (h : j < N ∧ j < 2147483648) : vp_in (nI j) N ∧ (nI j).toNatClampNeg = j := by
  have h1 := nI_clamp (n := j) (by omega)
  refine ⟨fun q => ?_, h1⟩
  rcases q with q | q
  · exact nI_pos (by omega) q
  · rw [h1] at q; omega
section XA
variable {G : xG} {M : xM} {n a b : Nat} {Q : Outcome → xS → Prop} {z z' : xS} {pc : Nat} {L L' : List (Nat × Value)} {st st' : List Value} {H H1 : Heap} {c i k tg : Nat} {I : xI} {J : xJ} {R Z : xR} {T : xT} {ty : FieldType}
theorem xAr.cell {kd : Nat} (har : xAr c ty kd tg) (hH : xH G z H) (hlv : z.T.lv c i) : H[z.T.ad c i]? = some (arrV (G.dA (xta c)) (z.T.len c i) (fun j => xv z c i j)) := (hH.2.1 c i hlv).2.2 har.1
theorem xAr.arr {kd : Nat} (har : xAr c ty kd tg) {s : State} (hK : va_K G.D vwCl (xTys G) s) (nn : Nat) (f : Nat → Value) : s.isArrayOf (arrV (G.dA (xta c)) nn f) ty := by
  have := (hK.2 _ _ (xTys_at har.2.1)).1 nn f
  rw [har.2.2.1] at this
  exact this
theorem x_alen {kd : Nat} (q : Nat) (hd : decode M.cc pc = .ok (.arraylength, 1)) (hq : pc + 1 = q) (har : xAr c ty kd tg) (hlv : T.lv c i)
    (kk : X G M n a b Q (I, J, R, Z, T) q L (.int (nI (T.len c i)) :: st)) : X G M n a b Q (I, J, R, Z, T) pc L (.ref (T.ad c i) :: st) := by
  subst hq
  exact X.one _ (fun hC hH _ kk => W.alen hC.xx hC.bb (har.cell hH hlv) (har.arr hC.kk _ _) (by rw [arrV_size]; rfl) rfl rfl hd kk) kk
theorem x_iald {j : Nat} (q : Nat) (hd : decode M.cc pc = .ok (.iaload, 1)) (hq : pc + 1 = q) (har : xAr c .int 0 tg) (hlv : T.lv c i) (hj : j < T.len c i ∧ j < 2147483648)
    (kk : X G M n a b Q (I, J, R, Z, T) q L (.int (I c i j) :: st)) : X G M n a b Q (I, J, R, Z, T) pc L (.int (nI j) :: .ref (T.ad c i) :: st) := by
  subst hq
  obtain ⟨hv, hcl⟩ := x_vin hj
  refine X.one _ (fun hC hH _ kk => W.iald (v := .int (I c i j)) hC.xx hC.bb (har.cell hH hlv) (har.arr hC.kk _ _) (fun q => by cases q) (by rw [arrV_size]; exact hv) ?_ rfl rfl hd kk) kk
  rw [hcl, arrV_read _ _ hj.1, xv_i (har.2.2.2.1 j)]
theorem x_bald {j : Nat} (q : Nat) (hd : decode M.cc pc = .ok (.baload, 1)) (hq : pc + 1 = q) (har : xAr c .byte 0 tg) (hlv : T.lv c i) (hj : j < T.len c i ∧ j < 2147483648)
    (kk : X G M n a b Q (I, J, R, Z, T) q L (.int (I c i j) :: st)) : X G M n a b Q (I, J, R, Z, T) pc L (.int (nI j) :: .ref (T.ad c i) :: st) := by
  subst hq
  obtain ⟨hv, hcl⟩ := x_vin hj
  refine X.one _ (fun hC hH _ kk => W.bald (v := .int (I c i j)) hC.xx hC.bb (har.cell hH hlv) (har.arr hC.kk _ _) (fun q => by cases q) (by rw [arrV_size]; exact hv) ?_ rfl rfl hd kk) kk
  rw [hcl, arrV_read _ _ hj.1, xv_i (har.2.2.2.1 j)]
theorem x_zald {j : Nat} (q : Nat) (hd : decode M.cc pc = .ok (.baload, 1)) (hq : pc + 1 = q) (har : xAr c .boolean 0 tg) (hlv : T.lv c i) (hj : j < T.len c i ∧ j < 2147483648)
    (kk : X G M n a b Q (I, J, R, Z, T) q L (.int (I c i j) :: st)) : X G M n a b Q (I, J, R, Z, T) pc L (.int (nI j) :: .ref (T.ad c i) :: st) := by
  subst hq
  obtain ⟨hv, hcl⟩ := x_vin hj
  refine X.one _ (fun hC hH _ kk => W.zald (v := .int (I c i j)) hC.xx hC.bb (har.cell hH hlv) (har.arr hC.kk _ _) (fun q => by cases q) (by rw [arrV_size]; exact hv) ?_ rfl rfl hd kk) kk
  rw [hcl, arrV_read _ _ hj.1, xv_i (har.2.2.2.1 j)]
theorem x_lald {j : Nat} (q : Nat) (hd : decode M.cc pc = .ok (.laload, 1)) (hq : pc + 1 = q) (har : xAr c .long 1 tg) (hlv : T.lv c i) (hj : j < T.len c i ∧ j < 2147483648)
    (kk : X G M n a b Q (I, J, R, Z, T) q L (.long (J c i j) :: st)) : X G M n a b Q (I, J, R, Z, T) pc L (.int (nI j) :: .ref (T.ad c i) :: st) := by
  subst hq
  obtain ⟨hv, hcl⟩ := x_vin hj
  refine X.one _ (fun hC hH _ kk => W.lald (v := .long (J c i j)) hC.xx hC.bb (har.cell hH hlv) (har.arr hC.kk _ _) (fun q => by cases q) (by rw [arrV_size]; exact hv) ?_ rfl rfl hd kk) kk
  rw [hcl, arrV_read _ _ hj.1, xv_j (har.2.2.2.1 j)]
theorem x_aldr {j : Nat} (q : Nat) (hd : decode M.cc pc = .ok (.aaload, 1)) (hq : pc + 1 = q) (har : xAr c ty 2 tg) (hty : ty.isReference = true) (hlv : T.lv c i) (hj : j < T.len c i ∧ j < 2147483648)
    (kk : X G M n a b Q (I, J, R, Z, T) q L (va_re (T.ad tg) (R c i j) :: st)) : X G M n a b Q (I, J, R, Z, T) pc L (.int (nI j) :: .ref (T.ad c i) :: st) := by
  subst hq
  obtain ⟨hv, hcl⟩ := x_vin hj
  refine X.one _ (fun hC hH _ kk => W.aald (v := va_re (T.ad tg) (R c i j)) hC.xx hC.bb (har.cell hH hlv) (har.arr hC.kk _ _) hty (fun q => by cases q) (by rw [arrV_size]; exact hv) ?_ rfl rfl hd kk) kk
  rw [hcl, arrV_read _ _ hj.1, xv_r (har.2.2.2.1 j), har.2.2.2.2 j]
theorem x_alds {j w : Nat} (q : Nat) (hd : decode M.cc pc = .ok (.aaload, 1)) (hq : pc + 1 = q) (har : xAr c ty 2 tg) (hty : ty.isReference = true) (hlv : T.lv c i) (hj : j < T.len c i ∧ j < 2147483648) (hr : R c i j = some w)
    (kk : X G M n a b Q (I, J, R, Z, T) q L (.ref (T.ad tg w) :: st)) : X G M n a b Q (I, J, R, Z, T) pc L (.int (nI j) :: .ref (T.ad c i) :: st) := by
  refine x_aldr q hd hq har hty hlv hj ?_
  rw [hr]; exact kk
theorem x_aldz {j w : Nat} (q : Nat) (hd : decode M.cc pc = .ok (.aaload, 1)) (hq : pc + 1 = q) (har : xAr c ty 3 tg) (hty : ty.isReference = true) (hlv : T.lv c i) (hj : j < T.len c i ∧ j < 2147483648) (hr : Z c i j = some w)
    (kk : X G M n a b Q (I, J, R, Z, T) q L (.ref (T.ad tg w) :: st)) : X G M n a b Q (I, J, R, Z, T) pc L (.int (nI j) :: .ref (T.ad c i) :: st) := by
  subst hq
  obtain ⟨hv, hcl⟩ := x_vin hj
  refine X.one _ (fun hC hH _ kk => W.aald (v := .ref (T.ad tg w)) hC.xx hC.bb (har.cell hH hlv) (har.arr hC.kk _ _) hty (fun q => by cases q) (by rw [arrV_size]; exact hv) ?_ rfl rfl hd kk) kk
  rw [hcl, arrV_read _ _ hj.1, xv_z (har.2.2.2.1 j), har.2.2.2.2 j]
  show some (va_re (T.ad tg) (Z c i j)) = _
  rw [hr]; rfl
/-- what a store into an array leaves -/
theorem xH.ast {kd j : Nat} {v : Value} (har : xAr c ty kd tg) (hH : xH G z H) (hlv : z.T.lv c i) (h50 : c ≠ 50) (e1 : H1[z.T.ad c i]? = some ((arrV (G.dA (xta c)) (z.T.len c i) (fun j => xv z c i j)).setSlot j v)) (e2 : H1.size = H.size) (e3 : ∀ q : Nat, q ≠ z.T.ad c i → H1[q]? = H[q]?)
    (hT : z'.T = z.T) (hv : xv z' c i j = v) (ho : ∀ c' i' k', ¬ (c' = c ∧ i' = i ∧ k' = j) → xv z' c' i' k' = xv z c' i' k') (hwf : xWf z') : xH G z' H1 := by
  refine hH.upd hlv h50 e2 e3 hT (fun c' i' k' h => ho c' i' k' (fun g => h ⟨g.1, g.2.1⟩)) ⟨fun h => absurd h har.1, fun _ => ?_⟩ hwf
  rw [hT, e1, arrV_store]
  congr 2
  funext q
  by_cases hq : q = j
  · subst hq; simp [updV, hv]
  · simp only [updV, if_neg hq]; exact (ho c i q (fun g => hq g.2.2)).symm
theorem x_iast {j : Nat} {x : Int32} (q : Nat) (hd : decode M.cc pc = .ok (.iastore, 1)) (hq : pc + 1 = q) (har : xAr c .int 0 tg) (h50 : c ≠ 50) (h23 : xta c ≠ 2 ∧ xta c ≠ 3) (hlv : T.lv c i) (hj : j < T.len c i ∧ j < 2147483648)
    (kk : X G M n a b Q (xu I c i j x, J, R, Z, T) q L st) : X G M n a b Q (I, J, R, Z, T) pc L (.int x :: .int (nI j) :: .ref (T.ad c i) :: st) := by
  subst hq
  obtain ⟨hv, hcl⟩ := x_vin hj
  intro p e R' s m args below meth c0 hC H locs ls hH h1 h2 hl hL
  refine W.iast hC.xx hC.bb (har.cell hH hlv) (har.arr hC.kk _ _) (fun q => by cases q) (by rw [arrV_size]; exact hv) rfl rfl hd fun H1 e1 e2 e3 => ?_
  rw [hcl] at e1
  exact kk p e R' s m args below meth c0 hC H1 _ ls (hH.ast (z' := (xu I c i j x, J, R, Z, T)) har hlv h50 e1 e2 e3 rfl (by rw [xv_i (har.2.2.2.1 j)]; show Value.int (xu I c i j x c i j) = _; rw [xu_eq]) (fun _ _ _ h => xv_uI h) (hH.2.2.1.uI fun _ => ⟨fun g => absurd g h23.1, fun g => absurd g h23.2⟩)) h1 h2 (xLs.loc hl ((hH.2.1 c i hlv).1 h50)) hL
theorem x_fb (x : Int32) : fits .byte (.int x.toInt8.toInt32) = true := pk_fb x
theorem x_bast {j : Nat} {x : Int32} (q : Nat) (hd : decode M.cc pc = .ok (.bastore, 1)) (hq : pc + 1 = q) (har : xAr c .byte 0 tg) (h50 : c ≠ 50) (h23 : xta c ≠ 3) (hlv : T.lv c i) (hj : j < T.len c i ∧ j < 2147483648)
    (kk : X G M n a b Q (xu I c i j x.toInt8.toInt32, J, R, Z, T) q L st) : X G M n a b Q (I, J, R, Z, T) pc L (.int x :: .int (nI j) :: .ref (T.ad c i) :: st) := by
  subst hq
  obtain ⟨hv, hcl⟩ := x_vin hj
  intro p e R' s m args below meth c0 hC H locs ls hH h1 h2 hl hL
  refine W.bast hC.xx hC.bb (har.cell hH hlv) (har.arr hC.kk _ _) (fun q => by cases q) (by rw [arrV_size]; exact hv) rfl rfl hd fun H1 e1 e2 e3 => ?_
  rw [hcl] at e1
  exact kk p e R' s m args below meth c0 hC H1 _ ls (hH.ast (z' := (xu I c i j x.toInt8.toInt32, J, R, Z, T)) har hlv h50 e1 e2 e3 rfl (by rw [xv_i (har.2.2.2.1 j)]; show Value.int (xu I c i j x.toInt8.toInt32 c i j) = _; rw [xu_eq]; rfl) (fun _ _ _ h => xv_uI h) (hH.2.2.1.uI fun _ => ⟨fun g => x_fb x, fun g => absurd g h23⟩)) h1 h2 (xLs.loc hl ((hH.2.1 c i hlv).1 h50)) hL
theorem x_zast {j : Nat} {x : Int32} (q : Nat) (hd : decode M.cc pc = .ok (.bastore, 1)) (hq : pc + 1 = q) (har : xAr c .boolean 0 tg) (h50 : c ≠ 50) (h23 : xta c ≠ 2) (hx : x = 0 ∨ x = 1) (hlv : T.lv c i) (hj : j < T.len c i ∧ j < 2147483648)
    (kk : X G M n a b Q (xu I c i j x, J, R, Z, T) q L st) : X G M n a b Q (I, J, R, Z, T) pc L (.int x :: .int (nI j) :: .ref (T.ad c i) :: st) := by
  subst hq
  obtain ⟨hv, hcl⟩ := x_vin hj
  intro p e R' s m args below meth c0 hC H locs ls hH h1 h2 hl hL
  refine W.zast hC.xx hC.bb (har.cell hH hlv) (har.arr hC.kk _ _) (fun q => by cases q) (by rw [arrV_size]; exact hv) rfl rfl hd fun H1 e1 e2 e3 => ?_
  rw [hcl] at e1
  have hnar : narrow .boolean (.int x) = .int x := by rcases hx with rfl | rfl <;> rfl
  exact kk p e R' s m args below meth c0 hC H1 _ ls (hH.ast (z' := (xu I c i j x, J, R, Z, T)) har hlv h50 e1 e2 e3 rfl (by rw [xv_i (har.2.2.2.1 j)]; show Value.int (xu I c i j x c i j) = _; rw [xu_eq]; exact hnar.symm) (fun _ _ _ h => xv_uI h) (hH.2.2.1.uI fun _ => ⟨fun g => absurd g h23, fun _ => hx⟩)) h1 h2 (xLs.loc hl ((hH.2.1 c i hlv).1 h50)) hL
theorem x_last {j : Nat} {x : Int64} (q : Nat) (hd : decode M.cc pc = .ok (.lastore, 1)) (hq : pc + 1 = q) (har : xAr c .long 1 tg) (h50 : c ≠ 50) (hlv : T.lv c i) (hj : j < T.len c i ∧ j < 2147483648)
    (kk : X G M n a b Q (I, xu J c i j x, R, Z, T) q L st) : X G M n a b Q (I, J, R, Z, T) pc L (.long x :: .int (nI j) :: .ref (T.ad c i) :: st) := by
  subst hq
  obtain ⟨hv, hcl⟩ := x_vin hj
  intro p e R' s m args below meth c0 hC H locs ls hH h1 h2 hl hL
  refine W.last hC.xx hC.bb (har.cell hH hlv) (har.arr hC.kk _ _) (fun q => by cases q) (by rw [arrV_size]; exact hv) rfl rfl hd fun H1 e1 e2 e3 => ?_
  rw [hcl] at e1
  exact kk p e R' s m args below meth c0 hC H1 _ ls (hH.ast (z' := (I, xu J c i j x, R, Z, T)) har hlv h50 e1 e2 e3 rfl (by rw [xv_j (har.2.2.2.1 j)]; show Value.long (xu J c i j x c i j) = _; rw [xu_eq]) (fun _ _ _ h => xv_uJ h) hH.2.2.1.setJ) h1 h2 (xLs.loc hl ((hH.2.1 c i hlv).1 h50)) hL
end XA
