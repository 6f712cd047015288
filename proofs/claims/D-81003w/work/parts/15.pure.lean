set_option maxRecDepth 100000
theorem xr1 {P : Prop} {Q : Outcome → xS → Prop} {z : xS} (h : P) (hq : Q (.returned (some (.int (b2i P)))) z) : Q (.returned (some (.int 1))) z := by rw [b2i_t h] at hq; exact hq
theorem xr0 {P : Prop} {Q : Outcome → xS → Prop} {z : xS} (h : ¬ P) (hq : Q (.returned (some (.int (b2i P)))) z) : Q (.returned (some (.int 0))) z := by rw [b2i_f h] at hq; exact hq
theorem xrv {v w : Value} {Q : Outcome → xS → Prop} {z : xS} (h : v = w) (hq : Q (.returned (some w)) z) : Q (.returned (some v)) z := by rw [h]; exact hq
theorem xri {v w : Int32} {Q : Outcome → xS → Prop} {z : xS} (h : v = w) (hq : Q (.returned (some (.int w))) z) : Q (.returned (some (.int v))) z := by rw [h]; exact hq
/-- the first k from s on, of m, with P; else none -/
noncomputable def fst0 (P : Nat → Prop) : Nat → Nat → Option Nat
  | _, 0 => none
  | s, m + 1 => @ite _ (P s) (Classical.propDecidable _) (some s) (fst0 P (s + 1) m)
theorem fst0_some {P : Nat → Prop} : ∀ (m s k : Nat), s ≤ k → k < s + m → P k → (∀ j, s ≤ j → j < k → ¬ P j) → fst0 P s m = some k := by
  intro m
  induction m with
  | zero => intro s k h1 h2; omega
  | succ m ih =>
    intro s k h1 h2 hp hn
    by_cases e : s = k
    · subst e; simp only [fst0, if_pos hp]
    · simp only [fst0, if_neg (hn s (Nat.le_refl _) (by omega))]
      exact ih (s + 1) k (by omega) (by omega) hp (fun j h3 h4 => hn j (by omega) h4)
theorem fst0_none {P : Nat → Prop} : ∀ (m s : Nat), (∀ j, s ≤ j → j < s + m → ¬ P j) → fst0 P s m = none := by
  intro m
  induction m with
  | zero => intro s _; rfl
  | succ m ih =>
    intro s hn
    simp only [fst0, if_neg (hn s (Nat.le_refl _) (by omega))]
    exact ih (s + 1) (fun j h3 h4 => hn j (by omega) (by omega))
theorem fst0_spec {P : Nat → Prop} : ∀ (m s k : Nat), fst0 P s m = some k → s ≤ k ∧ k < s + m ∧ P k ∧ ∀ j, s ≤ j → j < k → ¬ P j := by
  intro m
  induction m with
  | zero => intro s k h; cases h
  | succ m ih =>
    intro s k h
    by_cases e : P s
    · simp only [fst0, if_pos e] at h; cases h
      exact ⟨Nat.le_refl _, by omega, e, fun j h1 h2 => by omega⟩
    · simp only [fst0, if_neg e] at h
      obtain ⟨h1, h2, h3, h4⟩ := ih (s + 1) k h
      refine ⟨by omega, by omega, h3, fun j h5 h6 => ?_⟩
      by_cases e2 : j = s
      · subst e2; exact e
      · exact h4 j (by omega) h6
theorem fst0_no {P : Nat → Prop} : ∀ (m s : Nat), fst0 P s m = none → ∀ j, s ≤ j → j < s + m → ¬ P j := by
  intro m
  induction m with
  | zero => intro s _ j h1 h2; omega
  | succ m ih =>
    intro s h j h1 h2
    by_cases e : P s
    · simp only [fst0, if_pos e] at h; cases h
    · simp only [fst0, if_neg e] at h
      by_cases e2 : j = s
      · subst e2; exact e
      · exact ih (s + 1) h j (by omega) (by omega)
/-- the first below n with P, as an int; -1 -/
noncomputable def fstI (P : Nat → Prop) (n : Nat) : Int32 := match fst0 P 0 n with
  | some k => nI k
  | none => -1
theorem fstI_some {P : Nat → Prop} {n k : Nat} (h : k < n) (hp : P k) (hn : ∀ j, j < k → ¬ P j) : fstI P n = nI k := by
  unfold fstI; rw [fst0_some n 0 k (by omega) (by omega) hp (fun j _ h2 => hn j h2)]
theorem fstI_none {P : Nat → Prop} {n : Nat} (hn : ∀ j, j < n → ¬ P j) : fstI P n = -1 := by
  unfold fstI; rw [fst0_none n 0 (fun j _ h2 => hn j (by omega))]
/-- how many below n have P -/
noncomputable def cntN (P : Nat → Prop) : Nat → Nat
  | 0 => 0
  | n + 1 => cntN P n + @ite _ (P n) (Classical.propDecidable _) 1 0
theorem cntN_t {P : Nat → Prop} {n : Nat} (h : P n) : cntN P (n + 1) = cntN P n + 1 := by simp only [cntN, if_pos h]
theorem cntN_f {P : Nat → Prop} {n : Nat} (h : ¬ P n) : cntN P (n + 1) = cntN P n := by simp only [cntN, if_neg h, Nat.add_zero]
theorem cntN_le {P : Nat → Prop} (n : Nat) : cntN P n ≤ n := by
  induction n with
  | zero => exact Nat.le_refl _
  | succ n ih => by_cases h : P n
                 · rw [cntN_t h]; omega
                 · rw [cntN_f h]; omega
theorem lt_succ_of {P : Nat → Prop} {k : Nat} (h : ∀ j, j < k → P j) (hk : P k) : ∀ j, j < k + 1 → P j := fun j hj => by
  by_cases e : j = k
  · subst e; exact hk
  · exact h j (by omega)
/-- the first k places of a row are g's -/
def xfil {α : Type} (f : Nat → Nat → Nat → α) (c i s k : Nat) (g : Nat → α) : Nat → Nat → Nat → α := xur f c i (fun j => if s ≤ j ∧ j < k then g j else f c i j)
theorem xfil_0 {α : Type} (f : Nat → Nat → Nat → α) (c i s : Nat) (g : Nat → α) : xfil f c i s s g = f := by
  funext c' i' j
  unfold xfil xur
  by_cases e : c' = c ∧ i' = i
  · rw [if_pos e]
    show (if s ≤ j ∧ j < s then g j else f c i j) = _
    rw [if_neg (by omega), e.1, e.2]
  · rw [if_neg e]
theorem xfil_step {α : Type} {f : Nat → Nat → Nat → α} {c i s k : Nat} {g : Nat → α} {v : α} (h : s ≤ k) (hv : g k = v) : xu (xfil f c i s k g) c i k v = xfil f c i s (k + 1) g := by
  funext c' i' j
  by_cases e : c' = c ∧ i' = i
  · obtain ⟨rfl, rfl⟩ := e
    by_cases ej : j = k
    · subst ej; simp only [xu, xfil, xur]; simp [h, hv]
    · simp only [xu, xfil, xur]
      simp only [true_and, if_neg ej, and_true, if_true]
      by_cases e3 : s ≤ j ∧ j < k
      · rw [if_pos e3, if_pos (by omega)]
      · rw [if_neg e3, if_neg (by omega)]
  · simp only [xu, xfil, xur, if_neg e, if_neg (fun h : c' = c ∧ i' = i ∧ j = k => e ⟨h.1, h.2.1⟩)]
theorem xu_xfil {α : Type} {f : Nat → Nat → Nat → α} {c i s k c2 i2 j2 : Nat} {g : Nat → α} {v : α} (h : c2 ≠ c) : xu (xfil f c i s k g) c2 i2 j2 v = xfil (xu f c2 i2 j2 v) c i s k g := by
  funext c' i' j
  by_cases e : c' = c2 ∧ i' = i2 ∧ j = j2
  · obtain ⟨rfl, rfl, rfl⟩ := e
    simp only [xu, xfil, xur, and_self, if_true]
    rw [if_neg (fun h2 => h h2.1)]
  · simp only [xu, xfil, xur, if_neg e]
    by_cases e2 : c' = c ∧ i' = i
    · rw [if_pos e2, if_pos e2]
      rw [if_neg (fun h2 : c = c2 ∧ i = i2 ∧ j = j2 => h h2.1.symm)]
    · rw [if_neg e2, if_neg e2]
theorem xfil_in {α : Type} {f : Nat → Nat → Nat → α} {c i s k j : Nat} {g : Nat → α} (h : s ≤ j ∧ j < k) : xfil f c i s k g c i j = g j := by simp [xfil, xur, h]
theorem xfil_out {α : Type} {f : Nat → Nat → Nat → α} {c i s k j : Nat} {g : Nat → α} (h : ¬ (s ≤ j ∧ j < k)) : xfil f c i s k g c i j = f c i j := by simp only [xfil, xur, and_self, if_true, if_neg h]
theorem xfil_n {α : Type} {f : Nat → Nat → Nat → α} {c i s k c' i' j : Nat} {g : Nat → α} (h : ¬ (c' = c ∧ i' = i)) : xfil f c i s k g c' i' j = f c' i' j := by simp only [xfil, xur, if_neg h]
theorem xfil_c {α : Type} {f : Nat → Nat → Nat → α} {c i s k c' i' j : Nat} {g : Nat → α} (h : c' ≠ c) : xfil f c i s k g c' i' j = f c' i' j := xfil_n (fun e => h e.1)
/-- a row filled as far as it goes is a row of its own -/
theorem xfil_all {α : Type} {f : Nat → Nat → Nat → α} {T : xT} {c i k : Nat} {g : Nat → α} (hc : ¬ c < 20) (hl : T.len c i ≤ k) : ∀ c' i' j, T.lv c' i' → xIn T c' i' j → xur f c i g c' i' j = xfil f c i 0 k g c' i' j := by
  intro c' i' j _ hj
  by_cases e : c' = c ∧ i' = i
  · obtain ⟨rfl, rfl⟩ := e
    simp only [xIn, if_neg hc] at hj
    rw [xur_eq, xfil_in ⟨Nat.zero_le _, by omega⟩]
  · rw [xur_n e, xfil_n e]
theorem xur_xur {α : Type} {f : Nat → Nat → Nat → α} {c i : Nat} {g h : Nat → α} : xur (xur f c i g) c i h = xur f c i h := by
  funext c' i' j; unfold xur; split <;> rfl
theorem xur_self {α : Type} {f : Nat → Nat → Nat → α} {c i : Nat} : xur f c i (f c i) = f := by
  funext c' i' j; unfold xur; split
  · next h => rw [h.1, h.2]
  · rfl

