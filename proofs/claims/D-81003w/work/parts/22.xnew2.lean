set_option maxRecDepth 100000
section XZ
variable {G : xG} {M : xM} {n a b : Nat} {Q : Outcome → xS → Prop} {z z' : xS} {pc : Nat} {L : List (Nat × Value)} {st : List Value} {c i k tg kd m sl idx : Nat} {I I' : xI} {J J' : xJ} {R Z R' Z' : xR} {T : xT} {ty : FieldType}
theorem xvOf_eq {f : Nat} {ad : Nat → Nat} {a a' : Int32} {b b' : Int64} {r r' z z' : Option Nat} (h0 : f = 0 → a = a') (h1 : f = 1 → b = b') (h2 : f = 2 → r = r') (h3 : 3 ≤ f → z = z') : xvOf f ad a b r z = xvOf f ad a' b' r' z' := by
  match f, h0, h1, h2, h3 with
  | 0, h0, _, _, _ => show Value.int a = Value.int a'; rw [h0 rfl]
  | 1, _, h1, _, _ => show Value.long b = Value.long b'; rw [h1 rfl]
  | 2, _, _, h2, _ => show va_re ad r = va_re ad r'; rw [h2 rfl]
  | f + 3, _, _, _, h3 => show va_re ad z = va_re ad z'; rw [h3 (by omega)]
theorem xH.eqz {H : Heap} (hI : ∀ c i k, T.lv c i → xIn T c i k → xfk c k = 0 → I' c i k = I c i k) (hI2 : ∀ c i k, T.lv c i → ¬ c < 20 → k < T.len c i → xta c = 2 ∨ xta c = 3 → I' c i k = I c i k) (hJ : ∀ c i k, T.lv c i → xIn T c i k → xfk c k = 1 → J' c i k = J c i k) (hR : ∀ c i k, T.lv c i → xIn T c i k → xfk c k = 2 → R' c i k = R c i k) (hZ : ∀ c i k, T.lv c i → xIn T c i k → 3 ≤ xfk c k → Z' c i k = Z c i k) (h : xH G (I, J, R, Z, T) H) : xH G (I', J', R', Z', T) H := by
  obtain ⟨h1, h2, ⟨h3, h4, h5⟩, h6⟩ := h
  have ev : ∀ c i k, T.lv c i → xIn T c i k → xv (I', J', R', Z', T) c i k = xv (I, J, R, Z, T) c i k := fun c i k hl hk =>
    xvOf_eq (hI c i k hl hk) (hJ c i k hl hk) (hR c i k hl hk) (hZ c i k hl hk)
  refine ⟨h1, fun c i hl => ⟨(h2 c i hl).1, fun hc => ?_, fun hc => ?_⟩, ⟨h3, fun c i k j hl hk hr => h4 c i k j hl hk ?_, fun c i k hl hc hk => ?_⟩, h6⟩
  · obtain ⟨r, hr, ho⟩ := (h2 c i hl).2.1 hc
    refine ⟨r, hr, ho.to fun k hk => (ev c i k hl ?_).symm⟩
    have hk' : xIn T c i k ↔ k < r.2.2 := by simp only [xIn, if_pos hc, xNf, hr]
    exact hk'.mpr hk
  · refine ((h2 c i hl).2.2 hc).trans ?_
    have : ∀ (f g : Nat → Value) (m : Nat), (∀ j, j < m → f j = g j) → arrV (G.dA (xta c)) m f = arrV (G.dA (xta c)) m g := by
      intro f g m h
      unfold arrV
      congr 1
      apply Array.ext
      · simp
      · intro j h1 h2; simp at h1; simp [h j h1]
    exact congrArg some (this _ _ _ fun j hj => (ev c i j hl (by simp only [xIn, if_neg hc]; exact hj)).symm)
  · simp only [xrf, xS.R, xS.Z] at hr ⊢
    by_cases e : xfk c k = 2
    · rw [if_pos e] at hr ⊢; rw [hR c i k hl hk e] at hr; exact hr
    · rw [if_neg e] at hr ⊢
      by_cases e3 : 3 ≤ xfk c k
      · rw [if_pos e3] at hr ⊢; rw [hZ c i k hl hk e3] at hr; exact hr
      · rw [if_neg e3] at hr; cases hr
  · have := h5 c i k hl hc hk
    simp only [xS.I] at this ⊢
    refine ⟨fun g => ?_, fun g => ?_⟩
    · rw [hI2 c i k hl hc hk (Or.inl g)]; exact this.1 g
    · rw [hI2 c i k hl hc hk (Or.inr g)]; exact this.2 g
theorem x_eqz (hI : ∀ c i k, T.lv c i → xIn T c i k → xfk c k = 0 → I' c i k = I c i k) (hI2 : ∀ c i k, T.lv c i → ¬ c < 20 → k < T.len c i → xta c = 2 ∨ xta c = 3 → I' c i k = I c i k) (hJ : ∀ c i k, T.lv c i → xIn T c i k → xfk c k = 1 → J' c i k = J c i k) (hR : ∀ c i k, T.lv c i → xIn T c i k → xfk c k = 2 → R' c i k = R c i k) (hZ : ∀ c i k, T.lv c i → xIn T c i k → 3 ≤ xfk c k → Z' c i k = Z c i k) (k : X G M n a b Q (I', J', R', Z', T) pc L st) : X G M n a b Q (I, J, R, Z, T) pc L st := by
  intro p e R0 s m args below meth c hC H locs ls hH h1 h2 hl hL
  exact k p e R0 s m args below meth c hC H locs ls (hH.eqz hI hI2 hJ hR hZ) h1 h2 hl hL
/-- newarray of ints, bytes, booleans: the ints alone -/
theorem x_newaI {at_ : ArrayType} (q : Nat) (c i : Nat) (hd : decode M.cc pc = .ok (.newarray at_, 2)) (hq : pc + 2 = q) (hw : Cond.arrayClass (newarray.typeOf at_) ∈ lw_all) (har : xAr c (newarray.typeOf at_) 0 tg) (hdf : defaultValue (newarray.typeOf at_) = .int 0) (h31 : m < 60000000) (hcb : componentBytes (newarray.typeOf at_) ≤ 8) (had : T.ad c i = G.n0 + T.nc) (hc : T.nc + 1 ≤ 899237) (hs : T.ns + m ≤ 6392848)
    (kk : X G M n a b Q (xur I c i (fun _ => 0), J, R, Z, T.add c i m m) q L (.ref (T.ad c i) :: st)) : X G M n a b Q (I, J, R, Z, T) pc L (.int (nI m) :: st) := by
  refine x_newa q c i hd hq hw har (Or.inl ⟨rfl, hdf⟩) h31 hcb had hc hs ?_
  refine x_eqz (fun _ _ _ _ _ _ => rfl) (fun _ _ _ _ _ _ _ => rfl) (fun c' i' k hl hi hf => ?_) (fun c' i' k hl hi hf => ?_) (fun c' i' k hl hi hf => ?_) kk
  all_goals
    by_cases e : c' = c ∧ i' = i
    · rw [e.1, har.2.2.2.1] at hf; omega
    · rw [xur_n e]
theorem x_newaJ (q : Nat) (c i : Nat) (hd : decode M.cc pc = .ok (.newarray .long, 2)) (hq : pc + 2 = q) (hw : Cond.arrayClass .long ∈ lw_all) (har : xAr c .long 1 tg) (h31 : m < 60000000) (had : T.ad c i = G.n0 + T.nc) (hc : T.nc + 1 ≤ 899237) (hs : T.ns + m ≤ 6392848)
    (kk : X G M n a b Q (I, xur J c i (fun _ => 0), R, Z, T.add c i m m) q L (.ref (T.ad c i) :: st)) : X G M n a b Q (I, J, R, Z, T) pc L (.int (nI m) :: st) := by
  refine x_newa q c i hd hq hw har (Or.inr ⟨rfl, rfl⟩) h31 (by decide) had hc hs ?_
  have h23 : xta c ≠ 2 ∧ xta c ≠ 3 := by
    have := har.2.2.1
    refine ⟨fun e => ?_, fun e => ?_⟩ <;> (rw [e] at this; cases this)
  refine x_eqz (fun c' i' k hl hi hf => ?_) (fun c' i' k hl hc' hi hf => ?_) (fun _ _ _ _ _ _ => rfl) (fun c' i' k hl hi hf => ?_) (fun c' i' k hl hi hf => ?_) kk
  · by_cases e : c' = c ∧ i' = i
    · rw [e.1, har.2.2.2.1] at hf; omega
    · rw [xur_n e]
  · by_cases e : c' = c ∧ i' = i
    · rw [e.1] at hf; rcases hf with h | h
      · exact absurd h h23.1
      · exact absurd h h23.2
    · rw [xur_n e]
  · by_cases e : c' = c ∧ i' = i
    · rw [e.1, har.2.2.2.1] at hf; omega
    · rw [xur_n e]
  · by_cases e : c' = c ∧ i' = i
    · rw [e.1, har.2.2.2.1] at hf; omega
    · rw [xur_n e]
end XZ
theorem KS.addT {Z : xR} {T : xT} {N B c i m sl : Nat} (h : KS Z T N B) (hc : kcnt N c = 0) : KS Z (T.add c i m sl) N B := by
  have h2 : ∀ c' i' : Nat, i' < kcnt N c' → ¬ (c' = c ∧ i' = i) := fun c' i' h' e => by rw [e.1, hc] at h'; omega
  exact ⟨h.1, fun c' i' h' => Or.inr (h.2.1 c' i' h'), fun c' i' h' h20 => (xT.add_len_n (h2 c' i' h')).trans (h.2.2.1 c' i' h' h20), h.2.2.2⟩
/-- locals may be forgotten -/
def xLe : List (Nat × Value) → List (Nat × Value) → Prop
  | [], [] => True
  | x :: l, y :: r => (x = xo ∨ x = y) ∧ xLe l r
  | _, _ => False
theorem xLe.get : ∀ {L0 L : List (Nat × Value)}, xLe L0 L → L0.length = L.length ∧ ∀ (j t : Nat) (w : Value), L0[j]? = some (t, w) → t = 0 ∨ L[j]? = some (t, w)
  | [], [], _ => ⟨rfl, fun j t w h => by simp at h⟩
  | [], _ :: _, h => h.elim
  | _ :: _, [], h => h.elim
  | x :: l, y :: r, ⟨h1, h2⟩ => by
    obtain ⟨e1, e2⟩ := h2.get
    refine ⟨by simp [e1], fun j t w hj => ?_⟩
    cases j with
    | zero =>
      simp only [List.getElem?_cons_zero, Option.some.injEq] at hj
      rcases h1 with q | q
      · rw [q] at hj; left; have := congrArg Prod.fst hj; simpa [xo] using this.symm
      · right; rw [← q, hj]; simp
    | succ j =>
      simp only [List.getElem?_cons_succ] at hj ⊢
      exact e2 j t w hj
theorem x_fgt {G : xG} {M : xM} {n a b : Nat} {Q : Outcome → xS → Prop} {z : xS} {pc : Nat} {L : List (Nat × Value)} {st : List Value} (L0 : List (Nat × Value)) (h : xLe L0 L) (kk : X G M n a b Q z pc L0 st) : X G M n a b Q z pc L st := by
  intro p e R s m args below meth c hC H locs ls hH h1 h2 hl hL
  obtain ⟨e1, e2⟩ := h.get
  refine kk p e R s m args below meth c hC H locs ls hH h1 h2 hl ⟨hL.1, hL.2.1, e1.trans hL.2.2.1, fun j t w hj => ?_⟩
  rcases e2 j t w hj with q | q
  · exact Or.inl q
  · exact hL.2.2.2 j t w q
