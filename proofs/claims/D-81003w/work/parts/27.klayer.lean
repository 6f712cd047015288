set_option maxRecDepth 100000
/-! THE K LAYER: the kernel's state without its things; the things' rows lie hidden in v -/
/-- hidden: the things' ints, all longs, the things' rows, live, length, cells, slots -/
abbrev kV : Type := xI × xJ × xR × (Nat → Nat → Prop) × (Nat → Nat → Nat) × Nat × Nat
abbrev kV.t (v : kV) : xI := v.1
abbrev kV.J (v : kV) : xJ := v.2.1
abbrev kV.u (v : kV) : xR := v.2.2.1
abbrev kV.lv (v : kV) : Nat → Nat → Prop := v.2.2.2.1
abbrev kV.len (v : kV) : Nat → Nat → Nat := v.2.2.2.2.1
abbrev kV.nc (v : kV) : Nat := v.2.2.2.2.2.1
abbrev kV.ns (v : kV) : Nat := v.2.2.2.2.2.2
/-- fixed all through a call: static references, inodes, blocks, shape and longs as it began, doublings done -/
abbrev kX : Type := xR × Nat × Nat × xT × xJ × Nat
abbrev kX.Z (x : kX) : xR := x.1
abbrev kX.N (x : kX) : Nat := x.2.1
abbrev kX.B (x : kX) : Nat := x.2.2.1
abbrev kX.T0 (x : kX) : xT := x.2.2.2.1
abbrev kX.J0 (x : kX) : xJ := x.2.2.2.2.1
abbrev kX.g0 (x : kX) : Nat := x.2.2.2.2.2
abbrev kX.ad (x : kX) : Nat → Nat → Nat := x.T0.ad
def kI (A t : xI) : xI := fun c => cond (Nat.beq c 2 || Nat.beq c 31) (t c) (A c)
def kR (C u : xR) : xR := fun c => cond (Nat.beq c 2) (u c) (C c)
abbrev kT (x : kX) (v : kV) : xT := (v.lv, v.len, x.ad, v.nc, v.ns)
abbrev kS (A : xI) (C : xR) (x : kX) (v : kV) : xS := (kI A v.t, v.J, kR C v.u, x.Z, kT x v)
def kN (c : Nat) : Prop := (Nat.beq c 2 || Nat.beq c 31) = false
theorem kN.i {c : Nat} (h : kN c) (A t : xI) : kI A t c = A c := by unfold kI; rw [h]; rfl
theorem kN.r {c : Nat} (h : Nat.beq c 2 = false) (C u : xR) : kR C u c = C c := by unfold kR; rw [h]; rfl
theorem kI_of {c : Nat} (h2 : c ≠ 2) (h31 : c ≠ 31) (A t : xI) : kI A t c = A c := by
  unfold kI
  have e1 : Nat.beq c 2 = false := by rw [← Bool.not_eq_true]; exact fun h => h2 (Nat.eq_of_beq_eq_true h)
  have e2 : Nat.beq c 31 = false := by rw [← Bool.not_eq_true]; exact fun h => h31 (Nat.eq_of_beq_eq_true h)
  rw [e1, e2]; rfl
theorem kR_of {c : Nat} (h2 : c ≠ 2) (C u : xR) : kR C u c = C c := by
  unfold kR
  have e1 : Nat.beq c 2 = false := by rw [← Bool.not_eq_true]; exact fun h => h2 (Nat.eq_of_beq_eq_true h)
  rw [e1]; rfl
theorem kI_xu {A t : xI} {c i k : Nat} {w : Int32} (h : kN c) : xu (kI A t) c i k w = kI (xu A c i k w) t := by
  funext c' i' k'
  by_cases e : c' = c
  · subst e
    rw [h.i, xu, xu, h.i]
  · rw [xu_c e]
    unfold kI
    cases (Nat.beq c' 2 || Nat.beq c' 31)
    · exact (xu_c e).symm
    · rfl
theorem kI_xur {A t : xI} {c i : Nat} {w : Nat → Int32} (h : kN c) : xur (kI A t) c i w = kI (xur A c i w) t := by
  funext c' i' k'
  by_cases e : c' = c
  · subst e
    rw [h.i, xur, xur, h.i]
  · rw [xur_c e]
    unfold kI
    cases (Nat.beq c' 2 || Nat.beq c' 31)
    · exact (xur_c e).symm
    · rfl
theorem kR_xu {C u : xR} {c i k : Nat} {w : Option Nat} (h : Nat.beq c 2 = false) : xu (kR C u) c i k w = kR (xu C c i k w) u := by
  funext c' i' k'
  by_cases e : c' = c
  · subst e
    rw [kN.r h, xu, xu, kN.r h]
  · rw [xu_c e]
    unfold kR
    cases Nat.beq c' 2
    · exact (xu_c e).symm
    · rfl
theorem kR_xur {C u : xR} {c i : Nat} {w : Nat → Option Nat} (h : Nat.beq c 2 = false) : xur (kR C u) c i w = kR (xur C c i w) u := by
  funext c' i' k'
  by_cases e : c' = c
  · subst e
    rw [kN.r h, xur, xur, kN.r h]
  · rw [xur_c e]
    unfold kR
    cases Nat.beq c' 2
    · exact (xur_c e).symm
    · rfl
/-- what the hidden part tells: the things are th -/
def KT (x : kX) (v : kV) (th : List xTh) : Prop :=
  KS x.Z (kT x v) x.N x.B ∧
  (∀ c, c ≠ 31 → c ≠ 32 → v.lv c = x.T0.lv c ∧ v.len c = x.T0.len c) ∧ (∀ c, c ≠ 32 → v.J c = x.J0 c) ∧
  (∀ y, x.ad 31 y = y ∧ x.ad 32 y = y) ∧ (x.T0.nc + 60 ≤ 899237 ∧ x.T0.ns + 800000 ≤ 6392848) ∧
  ∃ g cap jk jo jf js jr jw : Nat, TH0 v.u (kT x v) cap jk jo jf js jr jw ∧ v.t 2 0 0 = nI th.length ∧ th.length ≤ cap ∧ thL v.t v.J jk jo jf js jr jw th.length = th ∧
    (cap = 64 * 2 ^ g ∧ x.g0 ≤ g ∧ g ≤ 9 ∧ v.nc + 6 * x.g0 = x.T0.nc + 6 * g ∧ v.ns + 768 * 2 ^ x.g0 = x.T0.ns + 768 * 2 ^ g)
theorem KT.ks {x : kX} {v : kV} {th : List xTh} (h : KT x v th) : KS x.Z (kT x v) x.N x.B := h.1
section KW
variable {G : xG} {M : xM} {n a b : Nat} {Q : Outcome → xS → Prop} {x : kX} {v : kV} {pc : Nat} {L : List (Nat × Value)} {st : List Value} {A A1 : xI} {C C1 : xR} {I1 : xI} {R1 : xR} {J1 : xJ} {T1 : xT} {Z1 : xR}
theorem k_nmA (h : I1 = kI A1 v.t) (k : ∀ A', A' = A1 → X G M n a b Q (kI A' v.t, J1, R1, Z1, T1) pc L st) : X G M n a b Q (I1, J1, R1, Z1, T1) pc L st := by rw [h]; exact k _ rfl
theorem k_nmC (h : R1 = kR C1 v.u) (k : ∀ C', C' = C1 → X G M n a b Q (I1, J1, kR C' v.u, Z1, T1) pc L st) : X G M n a b Q (I1, J1, R1, Z1, T1) pc L st := by rw [h]; exact k _ rfl
end KW
