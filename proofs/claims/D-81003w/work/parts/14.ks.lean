set_option maxRecDepth 100000
noncomputable def b2i (p : Prop) : Int32 := @ite _ p (Classical.propDecidable p) 1 0
theorem b2i_t {p : Prop} (h : p) : b2i p = 1 := by unfold b2i; rw [if_pos h]
theorem b2i_f {p : Prop} (h : ¬ p) : b2i p = 0 := by unfold b2i; rw [if_neg h]
theorem b2i_01 (p : Prop) : b2i p = 0 ∨ b2i p = 1 := by
  by_cases h : p
  · exact Or.inr (b2i_t h)
  · exact Or.inl (b2i_f h)
theorem b2i_0 {p : Prop} : b2i p = 0 ↔ ¬ p := by
  by_cases h : p
  · rw [b2i_t h]; exact ⟨fun g => absurd g (by decide), fun g => absurd h g⟩
  · rw [b2i_f h]; exact ⟨fun _ => h, fun _ => rfl⟩
theorem b2i_n0 {p : Prop} : ¬ b2i p = 0 ↔ p := by
  rw [b2i_0]; exact Classical.not_not
theorem b2i_eq {p : Prop} {v : Int32} (h : (p → v = 1) ∧ (¬ p → v = 0)) : v = b2i p := by
  by_cases g : p
  · rw [b2i_t g]; exact h.1 g
  · rw [b2i_f g]; exact h.2 g
theorem b2i_iff {p q : Prop} (h : p ↔ q) : b2i p = b2i q := by rw [propext h]
theorem nI_inj0 {a : Nat} (ha : a < 2 ^ 31) : nI a = 0 ↔ a = 0 := nI_eq (b := 0) ha (by decide)
theorem nI_lt0 {a : Nat} (ha : a < 2 ^ 31) : nI a < 0 ↔ False := ⟨fun h => nI_pos ha h, fun h => h.elim⟩
theorem nI_ge0 {a : Nat} (ha : a < 2 ^ 31) : 0 ≤ nI a ↔ True := ⟨fun _ => trivial, fun _ => nI_pos' ha⟩
theorem nI_gt0 {a : Nat} (ha : a < 2 ^ 31) : 0 < nI a ↔ 0 < a := nI_ltI (a := 0) (by decide) ha
theorem nI_le0 {a : Nat} (ha : a < 2 ^ 31) : nI a ≤ 0 ↔ a = 0 := by
  have := nI_leI (a := a) (b := 0) ha (by decide)
  exact ⟨fun h => by have := this.mp h; omega, fun h => this.mpr (by omega)⟩
theorem xb {l N j : Nat} (h : l = N) (hj : j < N) (hN : N ≤ 2147483648) : j < l ∧ j < 2147483648 := ⟨by omega, by omega⟩
section XN
variable {G : xG} {M : xM} {n a b : Nat} {Q : Outcome → xS → Prop} {z : xS} {pc : Nat} {L : List (Nat × Value)} {st : List Value} {I : xI} {J : xJ} {R Z : xR} {T : xT} {x y : Int32} {c d : Nat}
theorem x_nmi {v : Int32} (k : ∀ x, x = v → X G M n a b Q z pc L (.int x :: st)) : X G M n a b Q z pc L (.int v :: st) := k v rfl
theorem x_nml {v : Int64} (k : ∀ x, x = v → X G M n a b Q z pc L (.long x :: st)) : X G M n a b Q z pc L (.long v :: st) := k v rfl
theorem x_nmr {v : Option Nat} {f : Nat → Nat} (k : ∀ x, x = v → X G M n a b Q z pc L (va_re f x :: st)) : X G M n a b Q z pc L (va_re f v :: st) := k v rfl
theorem x_some {j : Nat} {v : Option Nat} {f : Nat → Nat} (h : v = some j) (k : X G M n a b Q z pc L (.ref (f j) :: st)) : X G M n a b Q z pc L (va_re f v :: st) := by rw [h]; exact k
theorem x_asR {j : Nat} {f : Nat → Nat} (k : X G M n a b Q z pc L (va_re f (some j) :: st)) : X G M n a b Q z pc L (.ref (f j) :: st) := k
theorem x_asR2 {j : Nat} {v : Value} {f : Nat → Nat} (k : X G M n a b Q z pc L (v :: va_re f (some j) :: st)) : X G M n a b Q z pc L (v :: .ref (f j) :: st) := k
theorem x_asN (f : Nat → Nat) (k : X G M n a b Q z pc L (va_re f none :: st)) : X G M n a b Q z pc L (.null :: st) := k
theorem x_vi {v w : Int32} (h : v = w) (k : X G M n a b Q z pc L (.int w :: st)) : X G M n a b Q z pc L (.int v :: st) := by rw [h]; exact k
theorem x_vi2 {v w : Int32} {u : Value} (h : v = w) (k : X G M n a b Q z pc L (u :: .int w :: st)) : X G M n a b Q z pc L (u :: .int v :: st) := by rw [h]; exact k
theorem x_nmI {I1 : xI} (k : ∀ I', I' = I1 → X G M n a b Q (I', J, R, Z, T) pc L st) : X G M n a b Q (I1, J, R, Z, T) pc L st := k I1 rfl
theorem x_nmJ {J1 : xJ} (k : ∀ J', J' = J1 → X G M n a b Q (I, J', R, Z, T) pc L st) : X G M n a b Q (I, J1, R, Z, T) pc L st := k J1 rfl
theorem x_nmR {R1 : xR} (k : ∀ R', R' = R1 → X G M n a b Q (I, J, R', Z, T) pc L st) : X G M n a b Q (I, J, R1, Z, T) pc L st := k R1 rfl
theorem x_nmZ {Z1 : xR} (k : ∀ Z', Z' = Z1 → X G M n a b Q (I, J, R, Z', T) pc L st) : X G M n a b Q (I, J, R, Z1, T) pc L st := k Z1 rfl
theorem x_iaddn (c d : Nat) (q : Nat) (hd : decode M.cc pc = .ok (.iadd, 1)) (hq : pc + 1 = q) (hx : x = nI c) (hy : y = nI d) (kk : X G M n a b Q z q L (.int (nI (c + d)) :: st)) : X G M n a b Q z pc L (.int y :: .int x :: st) := by
  refine x_iadd q hd hq ?_
  rw [hx, hy, nI_add]; exact kk
theorem x_imuln (c d : Nat) (q : Nat) (hd : decode M.cc pc = .ok (.imul, 1)) (hq : pc + 1 = q) (hx : x = nI c) (hy : y = nI d) (kk : X G M n a b Q z q L (.int (nI (c * d)) :: st)) : X G M n a b Q z pc L (.int y :: .int x :: st) := by
  refine x_imul q hd hq ?_
  rw [hx, hy, pk_mul]; exact kk
theorem x_isubn (c d : Nat) (q : Nat) (hd : decode M.cc pc = .ok (.isub, 1)) (hq : pc + 1 = q) (hx : x = nI c) (hy : y = nI d) (hle : d ≤ c) (kk : X G M n a b Q z q L (.int (nI (c - d)) :: st)) : X G M n a b Q z pc L (.int y :: .int x :: st) := by
  refine x_isub q hd hq ?_
  rw [hx, hy, pk_sub hle]; exact kk
theorem x_idivn (c d : Nat) (q : Nat) (hd : decode M.cc pc = .ok (.idiv, 1)) (hq : pc + 1 = q) (hx : x = nI c) (hy : y = nI d) (hle : c < 2147483648 ∧ 0 < d ∧ d < 2147483648) (kk : X G M n a b Q z q L (.int (nI (c / d)) :: st)) : X G M n a b Q z pc L (.int y :: .int x :: st) := by
  refine x_idiv q hd hq (by rw [hy]; exact nI_ne0 hle.2.1 (by omega)) ?_
  rw [hx, hy, pk_div (by omega) hle.2.1 (by omega)]; exact kk
theorem x_iremn (c d : Nat) (q : Nat) (hd : decode M.cc pc = .ok (.irem, 1)) (hq : pc + 1 = q) (hx : x = nI c) (hy : y = nI d) (hle : c < 2147483648 ∧ 0 < d ∧ d < 2147483648) (kk : X G M n a b Q z q L (.int (nI (c % d)) :: st)) : X G M n a b Q z pc L (.int y :: .int x :: st) := by
  refine x_irem q hd hq (by rw [hy]; exact nI_ne0 hle.2.1 (by omega)) ?_
  rw [hx, hy, pk_rem (by omega) hle.2.1 (by omega)]; exact kk
theorem xi_1 (k : Nat) : nI k + Int32.ofInt 1 = nI (k + 1) := nI_1 k
theorem xst {l : List Value} (h : l.length ≤ 50) : (l.map fun v => v.category).sum ≤ 100 := by
  have : ∀ l : List Value, (l.map fun v => v.category).sum ≤ 2 * l.length := by
    intro l
    induction l with
    | nil => simp
    | cons v t ih =>
      simp only [List.map_cons, List.sum_cons, List.length_cons]
      rcases lv_cat v with q | q <;> omega
  have := this l
  omega
theorem xnh {M : xM} {pc : Nat} (h : M.hh = []) : xNoH M pc := fun x hx => by rw [h] at hx; cases hx
theorem x_cat (f : Nat → Nat) (r : Option Nat) : (va_re f r).category = 1 := by cases r <;> rfl
theorem x_nz {v : Int32} (h : v = 0 ∨ v = 1) : narrow .boolean (.int v) = .int v := by rcases h with rfl | rfl <;> rfl
theorem x_fz0 {v : Int32} (h : v = 0 ∨ v = 1) : fits .boolean (.int v) = true := by rcases h with rfl | rfl <;> rfl
theorem xi_m1 (k : Nat) (h : 0 < k) : nI k + Int32.ofInt (-1) = nI (k - 1) := sb_m1 h
end XN
/-- how many objects of a class the kernel has: N inodes -/
def kcnt (N c : Nat) : Nat := [1, 1, 1, 1, 2, 1, N, 384, 8, 16, 0, 0, 0, 0, 0, 0, 0, 0, 0, 0, 1, 1, 1, 1, 1, 1, 1, 1, 1, 1, 1, 0, 0, 2, 2, 1, N, N, N, N, N, N, N, N, 8, 8, 16, 16, 16].getD c 0
def klen (N B c : Nat) : Nat := [0, 0, 0, 0, 0, 0, 0, 0, 0, 0, 0, 0, 0, 0, 0, 0, 0, 0, 0, 0, 128 * B, B, B, N, 384, 8, 16, 256, 8192, 8, 128, 0, 0, 12, 12, 128 * B, 8192, 8192, 64, 64, 512, 512, 512, 7168, 64, 64, 8, 8, 16].getD c 0
/-- the kernel as it is built: N inodes, B blocks -/
def KS (Z : xR) (T : xT) (N B : Nat) : Prop :=
  (8 ≤ N ∧ N ≤ 48 ∧ 40 ≤ B ∧ B ≤ 256) ∧
  (∀ c i : Nat, i < kcnt N c → T.lv c i) ∧
  (∀ c i : Nat, i < kcnt N c → 20 ≤ c → T.len c i = klen N B c) ∧
  (∀ i : Nat, i < 1 → Z 0 i 0 = some 0) ∧
  (∀ i : Nat, i < 1 → Z 0 i 1 = some 0) ∧
  (∀ i : Nat, i < 1 → Z 0 i 2 = some 0) ∧
  (∀ i : Nat, i < 1 → Z 0 i 3 = some 0) ∧
  (∀ i : Nat, i < 1 → Z 0 i 4 = some 0) ∧
  (∀ i : Nat, i < 1 → Z 0 i 5 = some 0) ∧
  (∀ i : Nat, i < 1 → Z 0 i 6 = some 0) ∧
  (∀ i : Nat, i < 1 → Z 0 i 7 = some 0) ∧
  (∀ i : Nat, i < 1 → Z 0 i 8 = some 0) ∧
  (∀ i : Nat, i < 1 → Z 0 i 9 = some 0) ∧
  (∀ i : Nat, i < 1 → Z 0 i 10 = some 0) ∧
  (∀ i : Nat, i < 1 → Z 0 i 11 = some 0) ∧
  (∀ i : Nat, i < 1 → Z 0 i 13 = some 0) ∧
  (∀ i : Nat, i < 1 → Z 0 i 20 = some 0) ∧
  (∀ i : Nat, i < 1 → Z 0 i 23 = some 0) ∧
  (∀ i : Nat, i < 1 → Z 0 i 24 = some 1) ∧
  (∀ i : Nat, i < 1 → Z 1 i 0 = some i) ∧
  (∀ i : Nat, i < 2 → Z 4 i 0 = some i) ∧
  (∀ i : Nat, i < 2 → Z 4 i 1 = some i) ∧
  (∀ i : Nat, i < 2 → Z 4 i 4 = some 0) ∧
  (∀ i : Nat, i < 1 → Z 5 i 3 = some i) ∧
  (∀ i : Nat, i < N → Z 6 i 5 = some i) ∧
  (∀ i : Nat, i < N → Z 6 i 9 = some i) ∧
  (∀ i : Nat, i < N → Z 6 i 16 = some i) ∧
  (∀ i : Nat, i < N → Z 6 i 23 = some i) ∧
  (∀ i : Nat, i < N → Z 6 i 26 = some i) ∧
  (∀ i : Nat, i < N → Z 6 i 27 = some i) ∧
  (∀ i : Nat, i < N → Z 6 i 28 = some i) ∧
  (∀ i : Nat, i < N → Z 6 i 29 = some i) ∧
  (∀ i : Nat, i < 8 → Z 8 i 0 = some i) ∧
  (∀ i : Nat, i < 8 → Z 8 i 2 = some i) ∧
  (∀ i : Nat, i < 16 → Z 9 i 4 = some i) ∧
  (∀ i : Nat, i < 16 → Z 9 i 13 = some i) ∧
  (∀ i : Nat, i < 16 → Z 9 i 15 = some i) ∧
  (∀ j : Nat, j < N → Z 23 0 j = some j) ∧
  (∀ j : Nat, j < 384 → Z 24 0 j = some j) ∧
  (∀ j : Nat, j < 8 → Z 25 0 j = some j) ∧
  (∀ j : Nat, j < 16 → Z 26 0 j = some j)
section KSA
variable {Z : xR} {T : xT} {N B i j : Nat}
theorem KS.nb (h : KS Z T N B) : 8 ≤ N ∧ N ≤ 48 ∧ 40 ≤ B ∧ B ≤ 256 := h.1
theorem KS.l0 (h : KS Z T N B) (hi : i < 1) : T.lv 0 i := h.2.1 0 i hi
theorem KS.l1 (h : KS Z T N B) (hi : i < 1) : T.lv 1 i := h.2.1 1 i hi
theorem KS.l2 (h : KS Z T N B) (hi : i < 1) : T.lv 2 i := h.2.1 2 i hi
theorem KS.l3 (h : KS Z T N B) (hi : i < 1) : T.lv 3 i := h.2.1 3 i hi
theorem KS.l4 (h : KS Z T N B) (hi : i < 2) : T.lv 4 i := h.2.1 4 i hi
theorem KS.l5 (h : KS Z T N B) (hi : i < 1) : T.lv 5 i := h.2.1 5 i hi
theorem KS.l6 (h : KS Z T N B) (hi : i < N) : T.lv 6 i := h.2.1 6 i hi
theorem KS.l7 (h : KS Z T N B) (hi : i < 384) : T.lv 7 i := h.2.1 7 i hi
theorem KS.l8 (h : KS Z T N B) (hi : i < 8) : T.lv 8 i := h.2.1 8 i hi
theorem KS.l9 (h : KS Z T N B) (hi : i < 16) : T.lv 9 i := h.2.1 9 i hi
theorem KS.l20 (h : KS Z T N B) (hi : i < 1) : T.lv 20 i := h.2.1 20 i hi
theorem KS.n20 (h : KS Z T N B) (hi : i < 1) : T.len 20 i = 128 * B := h.2.2.1 20 i hi (by decide)
theorem KS.l21 (h : KS Z T N B) (hi : i < 1) : T.lv 21 i := h.2.1 21 i hi
theorem KS.n21 (h : KS Z T N B) (hi : i < 1) : T.len 21 i = B := h.2.2.1 21 i hi (by decide)
theorem KS.l22 (h : KS Z T N B) (hi : i < 1) : T.lv 22 i := h.2.1 22 i hi
theorem KS.n22 (h : KS Z T N B) (hi : i < 1) : T.len 22 i = B := h.2.2.1 22 i hi (by decide)
theorem KS.l23 (h : KS Z T N B) (hi : i < 1) : T.lv 23 i := h.2.1 23 i hi
theorem KS.n23 (h : KS Z T N B) (hi : i < 1) : T.len 23 i = N := h.2.2.1 23 i hi (by decide)
theorem KS.l24 (h : KS Z T N B) (hi : i < 1) : T.lv 24 i := h.2.1 24 i hi
theorem KS.n24 (h : KS Z T N B) (hi : i < 1) : T.len 24 i = 384 := h.2.2.1 24 i hi (by decide)
theorem KS.l25 (h : KS Z T N B) (hi : i < 1) : T.lv 25 i := h.2.1 25 i hi
theorem KS.n25 (h : KS Z T N B) (hi : i < 1) : T.len 25 i = 8 := h.2.2.1 25 i hi (by decide)
theorem KS.l26 (h : KS Z T N B) (hi : i < 1) : T.lv 26 i := h.2.1 26 i hi
theorem KS.n26 (h : KS Z T N B) (hi : i < 1) : T.len 26 i = 16 := h.2.2.1 26 i hi (by decide)
theorem KS.l27 (h : KS Z T N B) (hi : i < 1) : T.lv 27 i := h.2.1 27 i hi
theorem KS.n27 (h : KS Z T N B) (hi : i < 1) : T.len 27 i = 256 := h.2.2.1 27 i hi (by decide)
theorem KS.l28 (h : KS Z T N B) (hi : i < 1) : T.lv 28 i := h.2.1 28 i hi
theorem KS.n28 (h : KS Z T N B) (hi : i < 1) : T.len 28 i = 8192 := h.2.2.1 28 i hi (by decide)
theorem KS.l29 (h : KS Z T N B) (hi : i < 1) : T.lv 29 i := h.2.1 29 i hi
theorem KS.n29 (h : KS Z T N B) (hi : i < 1) : T.len 29 i = 8 := h.2.2.1 29 i hi (by decide)
theorem KS.l30 (h : KS Z T N B) (hi : i < 1) : T.lv 30 i := h.2.1 30 i hi
theorem KS.n30 (h : KS Z T N B) (hi : i < 1) : T.len 30 i = 128 := h.2.2.1 30 i hi (by decide)
theorem KS.l33 (h : KS Z T N B) (hi : i < 2) : T.lv 33 i := h.2.1 33 i hi
theorem KS.n33 (h : KS Z T N B) (hi : i < 2) : T.len 33 i = 12 := h.2.2.1 33 i hi (by decide)
theorem KS.l34 (h : KS Z T N B) (hi : i < 2) : T.lv 34 i := h.2.1 34 i hi
theorem KS.n34 (h : KS Z T N B) (hi : i < 2) : T.len 34 i = 12 := h.2.2.1 34 i hi (by decide)
theorem KS.l35 (h : KS Z T N B) (hi : i < 1) : T.lv 35 i := h.2.1 35 i hi
theorem KS.n35 (h : KS Z T N B) (hi : i < 1) : T.len 35 i = 128 * B := h.2.2.1 35 i hi (by decide)
theorem KS.l36 (h : KS Z T N B) (hi : i < N) : T.lv 36 i := h.2.1 36 i hi
theorem KS.n36 (h : KS Z T N B) (hi : i < N) : T.len 36 i = 8192 := h.2.2.1 36 i hi (by decide)
theorem KS.l37 (h : KS Z T N B) (hi : i < N) : T.lv 37 i := h.2.1 37 i hi
theorem KS.n37 (h : KS Z T N B) (hi : i < N) : T.len 37 i = 8192 := h.2.2.1 37 i hi (by decide)
theorem KS.l38 (h : KS Z T N B) (hi : i < N) : T.lv 38 i := h.2.1 38 i hi
theorem KS.n38 (h : KS Z T N B) (hi : i < N) : T.len 38 i = 64 := h.2.2.1 38 i hi (by decide)
theorem KS.l39 (h : KS Z T N B) (hi : i < N) : T.lv 39 i := h.2.1 39 i hi
theorem KS.n39 (h : KS Z T N B) (hi : i < N) : T.len 39 i = 64 := h.2.2.1 39 i hi (by decide)
theorem KS.l40 (h : KS Z T N B) (hi : i < N) : T.lv 40 i := h.2.1 40 i hi
theorem KS.n40 (h : KS Z T N B) (hi : i < N) : T.len 40 i = 512 := h.2.2.1 40 i hi (by decide)
theorem KS.l41 (h : KS Z T N B) (hi : i < N) : T.lv 41 i := h.2.1 41 i hi
theorem KS.n41 (h : KS Z T N B) (hi : i < N) : T.len 41 i = 512 := h.2.2.1 41 i hi (by decide)
theorem KS.l42 (h : KS Z T N B) (hi : i < N) : T.lv 42 i := h.2.1 42 i hi
theorem KS.n42 (h : KS Z T N B) (hi : i < N) : T.len 42 i = 512 := h.2.2.1 42 i hi (by decide)
theorem KS.l43 (h : KS Z T N B) (hi : i < N) : T.lv 43 i := h.2.1 43 i hi
theorem KS.n43 (h : KS Z T N B) (hi : i < N) : T.len 43 i = 7168 := h.2.2.1 43 i hi (by decide)
theorem KS.l44 (h : KS Z T N B) (hi : i < 8) : T.lv 44 i := h.2.1 44 i hi
theorem KS.n44 (h : KS Z T N B) (hi : i < 8) : T.len 44 i = 64 := h.2.2.1 44 i hi (by decide)
theorem KS.l45 (h : KS Z T N B) (hi : i < 8) : T.lv 45 i := h.2.1 45 i hi
theorem KS.n45 (h : KS Z T N B) (hi : i < 8) : T.len 45 i = 64 := h.2.2.1 45 i hi (by decide)
theorem KS.l46 (h : KS Z T N B) (hi : i < 16) : T.lv 46 i := h.2.1 46 i hi
theorem KS.n46 (h : KS Z T N B) (hi : i < 16) : T.len 46 i = 8 := h.2.2.1 46 i hi (by decide)
theorem KS.l47 (h : KS Z T N B) (hi : i < 16) : T.lv 47 i := h.2.1 47 i hi
theorem KS.n47 (h : KS Z T N B) (hi : i < 16) : T.len 47 i = 8 := h.2.2.1 47 i hi (by decide)
theorem KS.l48 (h : KS Z T N B) (hi : i < 16) : T.lv 48 i := h.2.1 48 i hi
theorem KS.n48 (h : KS Z T N B) (hi : i < 16) : T.len 48 i = 16 := h.2.2.1 48 i hi (by decide)
theorem KS.z0_0 (h : KS Z T N B) (hi : i < 1) : Z 0 i 0 = some 0 := h.2.2.2.1 i hi
theorem KS.z0_1 (h : KS Z T N B) (hi : i < 1) : Z 0 i 1 = some 0 := h.2.2.2.2.1 i hi
theorem KS.z0_2 (h : KS Z T N B) (hi : i < 1) : Z 0 i 2 = some 0 := h.2.2.2.2.2.1 i hi
theorem KS.z0_3 (h : KS Z T N B) (hi : i < 1) : Z 0 i 3 = some 0 := h.2.2.2.2.2.2.1 i hi
theorem KS.z0_4 (h : KS Z T N B) (hi : i < 1) : Z 0 i 4 = some 0 := h.2.2.2.2.2.2.2.1 i hi
theorem KS.z0_5 (h : KS Z T N B) (hi : i < 1) : Z 0 i 5 = some 0 := h.2.2.2.2.2.2.2.2.1 i hi
theorem KS.z0_6 (h : KS Z T N B) (hi : i < 1) : Z 0 i 6 = some 0 := h.2.2.2.2.2.2.2.2.2.1 i hi
theorem KS.z0_7 (h : KS Z T N B) (hi : i < 1) : Z 0 i 7 = some 0 := h.2.2.2.2.2.2.2.2.2.2.1 i hi
theorem KS.z0_8 (h : KS Z T N B) (hi : i < 1) : Z 0 i 8 = some 0 := h.2.2.2.2.2.2.2.2.2.2.2.1 i hi
theorem KS.z0_9 (h : KS Z T N B) (hi : i < 1) : Z 0 i 9 = some 0 := h.2.2.2.2.2.2.2.2.2.2.2.2.1 i hi
theorem KS.z0_10 (h : KS Z T N B) (hi : i < 1) : Z 0 i 10 = some 0 := h.2.2.2.2.2.2.2.2.2.2.2.2.2.1 i hi
theorem KS.z0_11 (h : KS Z T N B) (hi : i < 1) : Z 0 i 11 = some 0 := h.2.2.2.2.2.2.2.2.2.2.2.2.2.2.1 i hi
theorem KS.z0_13 (h : KS Z T N B) (hi : i < 1) : Z 0 i 13 = some 0 := h.2.2.2.2.2.2.2.2.2.2.2.2.2.2.2.1 i hi
theorem KS.z0_20 (h : KS Z T N B) (hi : i < 1) : Z 0 i 20 = some 0 := h.2.2.2.2.2.2.2.2.2.2.2.2.2.2.2.2.1 i hi
theorem KS.z0_23 (h : KS Z T N B) (hi : i < 1) : Z 0 i 23 = some 0 := h.2.2.2.2.2.2.2.2.2.2.2.2.2.2.2.2.2.1 i hi
theorem KS.z0_24 (h : KS Z T N B) (hi : i < 1) : Z 0 i 24 = some 1 := h.2.2.2.2.2.2.2.2.2.2.2.2.2.2.2.2.2.2.1 i hi
theorem KS.z1_0 (h : KS Z T N B) (hi : i < 1) : Z 1 i 0 = some i := h.2.2.2.2.2.2.2.2.2.2.2.2.2.2.2.2.2.2.2.1 i hi
theorem KS.z4_0 (h : KS Z T N B) (hi : i < 2) : Z 4 i 0 = some i := h.2.2.2.2.2.2.2.2.2.2.2.2.2.2.2.2.2.2.2.2.1 i hi
theorem KS.z4_1 (h : KS Z T N B) (hi : i < 2) : Z 4 i 1 = some i := h.2.2.2.2.2.2.2.2.2.2.2.2.2.2.2.2.2.2.2.2.2.1 i hi
theorem KS.z4_4 (h : KS Z T N B) (hi : i < 2) : Z 4 i 4 = some 0 := h.2.2.2.2.2.2.2.2.2.2.2.2.2.2.2.2.2.2.2.2.2.2.1 i hi
theorem KS.z5_3 (h : KS Z T N B) (hi : i < 1) : Z 5 i 3 = some i := h.2.2.2.2.2.2.2.2.2.2.2.2.2.2.2.2.2.2.2.2.2.2.2.1 i hi
theorem KS.z6_5 (h : KS Z T N B) (hi : i < N) : Z 6 i 5 = some i := h.2.2.2.2.2.2.2.2.2.2.2.2.2.2.2.2.2.2.2.2.2.2.2.2.1 i hi
theorem KS.z6_9 (h : KS Z T N B) (hi : i < N) : Z 6 i 9 = some i := h.2.2.2.2.2.2.2.2.2.2.2.2.2.2.2.2.2.2.2.2.2.2.2.2.2.1 i hi
theorem KS.z6_16 (h : KS Z T N B) (hi : i < N) : Z 6 i 16 = some i := h.2.2.2.2.2.2.2.2.2.2.2.2.2.2.2.2.2.2.2.2.2.2.2.2.2.2.1 i hi
theorem KS.z6_23 (h : KS Z T N B) (hi : i < N) : Z 6 i 23 = some i := h.2.2.2.2.2.2.2.2.2.2.2.2.2.2.2.2.2.2.2.2.2.2.2.2.2.2.2.1 i hi
theorem KS.z6_26 (h : KS Z T N B) (hi : i < N) : Z 6 i 26 = some i := h.2.2.2.2.2.2.2.2.2.2.2.2.2.2.2.2.2.2.2.2.2.2.2.2.2.2.2.2.1 i hi
theorem KS.z6_27 (h : KS Z T N B) (hi : i < N) : Z 6 i 27 = some i := h.2.2.2.2.2.2.2.2.2.2.2.2.2.2.2.2.2.2.2.2.2.2.2.2.2.2.2.2.2.1 i hi
theorem KS.z6_28 (h : KS Z T N B) (hi : i < N) : Z 6 i 28 = some i := h.2.2.2.2.2.2.2.2.2.2.2.2.2.2.2.2.2.2.2.2.2.2.2.2.2.2.2.2.2.2.1 i hi
theorem KS.z6_29 (h : KS Z T N B) (hi : i < N) : Z 6 i 29 = some i := h.2.2.2.2.2.2.2.2.2.2.2.2.2.2.2.2.2.2.2.2.2.2.2.2.2.2.2.2.2.2.2.1 i hi
theorem KS.z8_0 (h : KS Z T N B) (hi : i < 8) : Z 8 i 0 = some i := h.2.2.2.2.2.2.2.2.2.2.2.2.2.2.2.2.2.2.2.2.2.2.2.2.2.2.2.2.2.2.2.2.1 i hi
theorem KS.z8_2 (h : KS Z T N B) (hi : i < 8) : Z 8 i 2 = some i := h.2.2.2.2.2.2.2.2.2.2.2.2.2.2.2.2.2.2.2.2.2.2.2.2.2.2.2.2.2.2.2.2.2.1 i hi
theorem KS.z9_4 (h : KS Z T N B) (hi : i < 16) : Z 9 i 4 = some i := h.2.2.2.2.2.2.2.2.2.2.2.2.2.2.2.2.2.2.2.2.2.2.2.2.2.2.2.2.2.2.2.2.2.2.1 i hi
theorem KS.z9_13 (h : KS Z T N B) (hi : i < 16) : Z 9 i 13 = some i := h.2.2.2.2.2.2.2.2.2.2.2.2.2.2.2.2.2.2.2.2.2.2.2.2.2.2.2.2.2.2.2.2.2.2.2.1 i hi
theorem KS.z9_15 (h : KS Z T N B) (hi : i < 16) : Z 9 i 15 = some i := h.2.2.2.2.2.2.2.2.2.2.2.2.2.2.2.2.2.2.2.2.2.2.2.2.2.2.2.2.2.2.2.2.2.2.2.2.1 i hi
theorem KS.z23 (h : KS Z T N B) (hj : j < N) : Z 23 0 j = some j := h.2.2.2.2.2.2.2.2.2.2.2.2.2.2.2.2.2.2.2.2.2.2.2.2.2.2.2.2.2.2.2.2.2.2.2.2.2.1 j hj
theorem KS.z24 (h : KS Z T N B) (hj : j < 384) : Z 24 0 j = some j := h.2.2.2.2.2.2.2.2.2.2.2.2.2.2.2.2.2.2.2.2.2.2.2.2.2.2.2.2.2.2.2.2.2.2.2.2.2.2.1 j hj
theorem KS.z25 (h : KS Z T N B) (hj : j < 8) : Z 25 0 j = some j := h.2.2.2.2.2.2.2.2.2.2.2.2.2.2.2.2.2.2.2.2.2.2.2.2.2.2.2.2.2.2.2.2.2.2.2.2.2.2.2.1 j hj
theorem KS.z26 (h : KS Z T N B) (hj : j < 16) : Z 26 0 j = some j := h.2.2.2.2.2.2.2.2.2.2.2.2.2.2.2.2.2.2.2.2.2.2.2.2.2.2.2.2.2.2.2.2.2.2.2.2.2.2.2.2 j hj
end KSA
