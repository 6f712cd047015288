set_option maxRecDepth 100000
/-! what is fixed; the kernel's invariant -/
def xrowB (c : Nat) : Bool := Nat.beq c 36 || Nat.beq c 37 || Nat.beq c 40 || Nat.beq c 41 || Nat.beq c 42 || Nat.beq c 44 || Nat.beq c 45
/-- what no undoing touches -/
def xfinB (c k : Nat) : Bool := !(xrowB c) && ((Nat.beq c 6 && Nat.beq k 0) || (Nat.beq c 9 && Nat.beq k 0) || !(Nat.beq c 3 || Nat.beq c 6 || (Nat.beq c 7 && (Nat.beq k 6 || Nat.beq k 7)) || Nat.beq c 8 || Nat.beq c 9 || (Nat.beq c 0 && Nat.beq k 17)))
def xfinC (c : Nat) : Bool := !(xrowB c)
theorem xfin_c {c k : Nat} (h : xfinB c k = true) : xfinC c = true := by
  unfold xfinB at h; unfold xfinC
  exact (Bool.and_eq_true _ _ ▸ h).1
/-- numbers and measures are as they were -/
def kFx (A B : xI) : Prop := ∀ c i k, xfinB c k = true → B c i k = A c i k
theorem kFx.rfl {A : xI} : kFx A A := fun _ _ _ _ => by rfl
theorem kFx.trans {A B D : xI} (h : kFx A B) (g : kFx B D) : kFx A D := fun c i k e => (g c i k e).trans (h c i k e)
theorem kFx.u {A B : xI} {c i k : Nat} {v : Int32} (h : kFx A B) (hc : xfinB c k = false) : kFx A (xu B c i k v) := fun c' i' k' e => by
  rw [xu_n, h c' i' k' e]
  rintro ⟨rfl, _, rfl⟩
  rw [hc] at e; cases e
theorem kFx.ur {A B : xI} {c i : Nat} {v : Nat → Int32} (h : kFx A B) (hc : xfinC c = false) : kFx A (xur B c i v) := fun c' i' k' e => by
  rw [xur_n, h c' i' k' e]
  rintro ⟨rfl, _⟩
  rw [xfin_c e] at hc; cases hc
theorem kFx.ite {A B D : xI} {p : Prop} [Decidable p] (h : kFx A B) (g : kFx A D) : kFx A (if p then B else D) := by split <;> assumption
theorem kFx.cif {A B D : xI} {p : Prop} (h : kFx A B) (g : kFx A D) : kFx A (cif p B D) := by
  by_cases e : p
  · rw [cif_t e]; exact h
  · rw [cif_f e]; exact g
theorem kFx.it {f : xI → Nat → xI} (h : ∀ A k, kFx A (f A k)) (A : xI) : ∀ n, kFx A (itA f A n)
  | 0 => kFx.rfl
  | n + 1 => (kFx.it h A n).trans (h _ _)
theorem fx_pEnd {A : xI} {p : Nat} : kFx A (pEndI A p) := by unfold pEndI; repeat' (first | exact kFx.rfl | refine kFx.ite ?_ ?_ | refine kFx.u ?_ rfl | refine kFx.ur ?_ rfl)
theorem fx_pClr {A : xI} {p : Nat} : kFx A (pClrI A p) := by unfold pClrI pEndI; repeat' (first | exact kFx.rfl | refine kFx.ite ?_ ?_ | refine kFx.u ?_ rfl | refine kFx.ur ?_ rfl)
theorem fx_iClr {A : xI} {i : Nat} : kFx A (iClr A i) := by unfold iClr iClr0; repeat' (first | exact kFx.rfl | refine kFx.ite ?_ ?_ | refine kFx.u ?_ rfl | refine kFx.ur ?_ rfl)
theorem fx_undoS {A : xI} {i : Nat} {w : Int32} : kFx A (iUndoS A i w) := by unfold iUndoS; repeat' (first | exact kFx.rfl | refine kFx.ite ?_ ?_ | refine kFx.u ?_ rfl | refine kFx.ur ?_ rfl)
theorem fx_keepS {A : xI} {i : Nat} {w : Int32} : kFx A (iKeepS A i w) := by unfold iKeepS; repeat' (first | exact kFx.rfl | refine kFx.ite ?_ ?_ | refine kFx.u ?_ rfl | refine kFx.ur ?_ rfl)
theorem fx_kSave {A : xI} {g : Int32} {q : Nat} : kFx A (kSave A g q) := by
  unfold kSave kSaveD kSaveP
  repeat' (first | exact kFx.rfl | refine kFx.ite ?_ ?_ | refine kFx.u ?_ rfl | refine kFx.ur ?_ rfl)
theorem fx_kRest {A : xI} {g : Int32} {q : Nat} : kFx A (kRest A g q) := by
  unfold kRest kRestD kRestP
  repeat' (first | exact kFx.rfl | refine kFx.ite ?_ ?_ | refine kFx.u ?_ rfl | refine kFx.ur ?_ rfl)
theorem fx_und1 {A : xI} {w : Int32} {t : xTh} : kFx A (kUnd1 w A t) := by unfold kUnd1; exact fx_kRest.ite kFx.rfl
theorem fx_undT {w : Int32} : ∀ (th : List xTh) (A : xI), kFx A (kUndT w th A)
  | [], _ => kFx.rfl
  | t :: r, A => fx_und1.trans (fx_undT r (kUnd1 w A t))
theorem fx_undN {A : xI} {w : Int32} {i : Nat} : kFx A (kUndN w A i) := by unfold kUndN; exact kFx.ite ((kFx.rfl.u rfl).u rfl) kFx.rfl
theorem fx_undC {A : xI} {w : Int32} {i : Nat} : kFx A (kUndC w A i) := by unfold kUndC; exact fx_iClr.ite kFx.rfl
theorem fx_und2 {A : xI} {w : Int32} {i : Nat} : kFx A (kUnd2 w A i) := (fx_undoS (A := A) (w := w) (i := i)).trans (fx_undN.trans fx_undC)
theorem fx_und3 {w : Int32} (s : xI × xR) : ∀ n, kFx s.1 (itS (kUnd3 w) s n).1
  | 0 => kFx.rfl
  | n + 1 => (fx_und3 s n).trans (by
      show kFx _ (kUnd3 w (itS (kUnd3 w) s n) n).1
      unfold kUnd3; split
      · exact fx_pClr
      · exact kFx.rfl)
theorem fx_undo {N : Nat} {w : Int32} {th : List xTh} {s : xI × xR} : kFx s.1 (kUndo N w th s).1 := by
  unfold kUndo; exact ((fx_undT th s.1).trans (kFx.it (f := kUnd2 w) (fun _ _ => fx_und2) _ N)).trans (fx_und3 (w := w) (itA (kUnd2 w) (kUndT w th s.1) N, s.2) 16)
theorem fx_swA {N : Nat} {A : xI} {C : xR} : kFx A (kSwA N A C) := by unfold kSwA; exact kFx.it (f := kSw1 C) (fun _ _ => by unfold kSw1; exact fx_iClr.cif kFx.rfl) _ N
def kNum (A : xI) (N : Nat) : Prop := (∀ i, i < N → A 6 i 0 = nI i) ∧ ∀ p, p < 16 → A 9 p 0 = nI p
theorem kNum.fx {A B : xI} {N : Nat} (h : kNum A N) (f : kFx A B) : kNum B N := ⟨fun i hi => (f 6 i 0 rfl).trans (h.1 i hi), fun p hp => (f 9 p 0 rfl).trans (h.2 p hp)⟩
theorem kRef.u {C : xR} {N c i k : Nat} {w : Option Nat} (h : kRef C N) (hv : ∀ o, w = some o → (c = 46 ∨ c = 47 ∨ c = 29 → o < 384) ∧ (c = 9 ∨ c = 7 → o < N)) : kRef (xu C c i k w) N := by
  have aux : ∀ c' i' k' o, xu C c i k w c' i' k' = some o → C c' i' k' = some o ∨ (c' = c ∧ w = some o) := by
    intro c' i' k' o e
    by_cases q : c' = c ∧ i' = i ∧ k' = k
    · obtain ⟨rfl, rfl, rfl⟩ := q; rw [xu_eq] at e; exact Or.inr ⟨rfl, e⟩
    · rw [xu_n q] at e; exact Or.inl e
  refine ⟨fun c' p k' o hc e => ?_, fun p k' j hk e => ?_, fun o j e => ?_, fun k' o e => ?_⟩
  · rcases aux _ _ _ _ e with q | ⟨q, q2⟩
    · exact h.1 _ _ _ _ hc q
    · exact (hv o q2).1 (by omega)
  · rcases aux _ _ _ _ e with q | ⟨q, q2⟩
    · exact h.2.1 _ _ _ hk q
    · exact (hv j q2).2 (by omega)
  · rcases aux _ _ _ _ e with q | ⟨q, q2⟩
    · exact h.2.2.1 _ _ q
    · exact (hv j q2).2 (by omega)
  · rcases aux _ _ _ _ e with q | ⟨q, q2⟩
    · exact h.2.2.2 _ _ q
    · exact (hv o q2).1 (by omega)
theorem kRef.ur {C : xR} {N c i : Nat} {w : Nat → Option Nat} (h : kRef C N) (hv : ∀ k o, w k = some o → (c = 46 ∨ c = 47 ∨ c = 29 → o < 384) ∧ (c = 9 ∨ c = 7 → o < N)) : kRef (xur C c i w) N := by
  have aux : ∀ c' i' k' o, xur C c i w c' i' k' = some o → C c' i' k' = some o ∨ (c' = c ∧ w k' = some o) := by
    intro c' i' k' o e
    by_cases q : c' = c ∧ i' = i
    · obtain ⟨rfl, rfl⟩ := q; rw [xur_eq] at e; exact Or.inr ⟨rfl, e⟩
    · rw [xur_n q] at e; exact Or.inl e
  refine ⟨fun c' p k' o hc e => ?_, fun p k' j hk e => ?_, fun o j e => ?_, fun k' o e => ?_⟩
  · rcases aux _ _ _ _ e with q | ⟨q, q2⟩
    · exact h.1 _ _ _ _ hc q
    · exact (hv _ o q2).1 (by omega)
  · rcases aux _ _ _ _ e with q | ⟨q, q2⟩
    · exact h.2.1 _ _ _ hk q
    · exact (hv _ j q2).2 (by omega)
  · rcases aux _ _ _ _ e with q | ⟨q, q2⟩
    · exact h.2.2.1 _ _ q
    · exact (hv _ j q2).2 (by omega)
  · rcases aux _ _ _ _ e with q | ⟨q, q2⟩
    · exact h.2.2.2 _ _ q
    · exact (hv _ o q2).1 (by omega)
theorem kRef.pEnd {C : xR} {N p : Nat} (h : kRef C N) : kRef (pEndR C p) N := by
  unfold pEndR; exact (h.u (fun o e => by cases e)).ur (fun k o e => by cases e)
theorem kRef.pClr {C : xR} {N p : Nat} (h : kRef C N) : kRef (pClrR C p) N := by
  unfold pClrR; exact ((h.u (fun o e => by cases e)).ur (fun k o e => by cases e)).pEnd
theorem va_cpy_in {α : Type} {f g : Nat → α} {sp dp n k : Nat} {P : α → Prop} (hf : ∀ j, P (f j)) (hg : ∀ j, P (g j)) : P (va_cpy f g sp dp n k) := by
  unfold va_cpy; split
  · exact hf _
  · exact hg _
theorem kRef.pUnd {C : xR} {N p : Nat} (h : kRef C N) : kRef (pUndR C p) N := by
  unfold pUndR
  refine kRef.pEnd (kRef.u (kRef.ur h fun k o e => ⟨fun _ => ?_, fun hc => by omega⟩) fun o e => ⟨fun hc => by omega, fun _ => ?_⟩)
  · exact h.had e
  · first
    | exact h.hw e
    | (rw [xur_c (by decide)] at e; exact h.hw e)
theorem kRef.und3 {w : Int32} {N : Nat} (s : xI × xR) (h : kRef s.2 N) : ∀ n, kRef (itS (kUnd3 w) s n).2 N
  | 0 => h
  | n + 1 => by
      show kRef (kUnd3 w (itS (kUnd3 w) s n) n).2 N
      unfold kUnd3; split
      · exact (kRef.und3 s h n).pClr
      · exact kRef.und3 s h n
theorem kRef.undo {N : Nat} {w : Int32} {th : List xTh} {s : xI × xR} (h : kRef s.2 N) : kRef (kUndo N w th s).2 N := by unfold kUndo; exact kRef.und3 (w := w) (itA (kUnd2 w) (kUndT w th s.1) N, s.2) h 16
theorem kWf.undT {N : Nat} {w : Int32} : ∀ (th : List xTh) {A : xI}, kWf A N → kWf (kUndT w th A) N
  | [], _, h => h
  | _ :: r, _, h => kWf.undT r h.und1
theorem kWf.it {f : xI → Nat → xI} {N : Nat} (h : ∀ A k, kWf A N → kWf (f A k) N) {A : xI} (hA : kWf A N) : ∀ n, kWf (itA f A n) N
  | 0 => hA
  | n + 1 => h _ _ (kWf.it h hA n)
theorem kWf.und3 {w : Int32} {N : Nat} (s : xI × xR) (h : kWf s.1 N) : ∀ n, kWf (itS (kUnd3 w) s n).1 N
  | 0 => h
  | n + 1 => by
      show kWf (kUnd3 w (itS (kUnd3 w) s n) n).1 N
      unfold kUnd3; split
      · exact (kWf.und3 s h n).pClr
      · exact kWf.und3 s h n
theorem kWf.undo {N : Nat} {w : Int32} {th : List xTh} {s : xI × xR} (h : kWf s.1 N) : kWf (kUndo N w th s).1 N := by
  unfold kUndo; exact kWf.und3 (w := w) (itA (kUnd2 w) (kUndT w th s.1) N, s.2) (kWf.it (f := kUnd2 w) (fun A k g => by unfold kUnd2; exact g.undoS.undN.undC) (h.undT th) N) 16
theorem kWf.cif {A B : xI} {p : Prop} {N : Nat} (h : kWf A N) (g : kWf B N) : kWf (cif p A B) N := by
  by_cases e : p
  · rw [cif_t e]; exact h
  · rw [cif_f e]; exact g
theorem kWf.swA {N : Nat} {A : xI} {C : xR} (h : kWf A N) : kWf (kSwA N A C) N := by unfold kSwA; exact kWf.it (f := kSw1 C) (fun _ _ g => by unfold kSw1; exact g.clr.cif g) h N
theorem thOK.filter {th : List xTh} {N : Nat} {p : xTh → Bool} (h : thOK th N) : thOK (th.filter p) N := fun t ht => h t (List.mem_filter.mp ht).1
theorem thOK.map {th : List xTh} {N : Nat} {f : xTh → xTh} (h : thOK th N) (hf : ∀ t, (f t).1 = t.1 ∧ (f t).2.1 = t.2.1) : thOK (th.map f) N := fun t ht => by
  obtain ⟨t', ht', rfl⟩ := List.mem_map.mp ht
  rw [(hf t').1, (hf t').2]; exact h t' ht'
theorem thDrop_kp {g oa : Int32} (t : xTh) : (thDrop g oa t).1 = t.1 ∧ (thDrop g oa t).2.1 = t.2.1 := by
  by_cases h : t.1 = g ∧ t.2.1 = oa
  · rw [thDrop_y h]; exact ⟨rfl, rfl⟩
  · rw [thDrop_n h]; exact ⟨rfl, rfl⟩
theorem thOK.end {th : List xTh} {N : Nat} {w : Int32} (h : thOK th N) : thOK (thEnd th w) N := by unfold thEnd; exact (h.map (f := thEnd1 w) (fun _ => ⟨rfl, rfl⟩)).filter
theorem thOK.itL {f : List xTh → Nat → List xTh} {N : Nat} (hf : ∀ l k, thOK l N → thOK (f l k) N) {l : List xTh} (h : thOK l N) : ∀ n, thOK (itL f l n) N
  | 0 => h
  | n + 1 => hf _ _ (thOK.itL hf h n)
theorem thOK.cif {a b : List xTh} {p : Prop} {N : Nat} (h : thOK a N) (g : thOK b N) : thOK (cif p a b) N := by
  by_cases e : p
  · rw [cif_t e]; exact h
  · rw [cif_f e]; exact g
theorem thOK.swT {th : List xTh} {N : Nat} {A : xI} {C : xR} (h : thOK th N) : thOK (kSwT A C th) N := by
  unfold kSwT; exact (thOK.itL (f := kSwP A C) (fun _ _ g => by unfold kSwP; exact g.cif (g.map thDrop_kp)) (thOK.itL (f := kSwO A C) (fun _ _ g => by unfold kSwO; exact g.cif (g.map thDrop_kp)) h 384) 8).filter
theorem len_cif {a b : List xTh} {p : Prop} {m : Nat} (h : a.length ≤ m) (g : b.length ≤ m) : (cif p a b).length ≤ m := by
  by_cases e : p
  · rw [cif_t e]; exact h
  · rw [cif_f e]; exact g
theorem len_itL {f : List xTh → Nat → List xTh} {m : Nat} (hf : ∀ l k, l.length ≤ m → (f l k).length ≤ m) {l : List xTh} (h : l.length ≤ m) : ∀ n, (itL f l n).length ≤ m
  | 0 => h
  | n + 1 => hf _ _ (len_itL hf h n)
theorem len_swT {th : List xTh} {A : xI} {C : xR} {m : Nat} (h : th.length ≤ m) : (kSwT A C th).length ≤ m := by
  unfold kSwT; exact Nat.le_trans (List.length_filter_le _ _) (len_itL (f := kSwP A C) (fun _ _ g => by unfold kSwP; exact len_cif g (by rw [List.length_map]; exact g)) (len_itL (f := kSwO A C) (fun _ _ g => by unfold kSwO; exact len_cif g (by rw [List.length_map]; exact g)) h 384) 8)
theorem len_end {th : List xTh} {w : Int32} : (thEnd th w).length ≤ th.length := by unfold thEnd; exact Nat.le_trans (List.length_filter_le _ _) (by rw [List.length_map]; exact Nat.le_refl _)
/-- references that no undoing touches -/
def kCx (C D : xR) : Prop := ∀ c i k, (Nat.beq c 9 || Nat.beq c 46 || Nat.beq c 47) = false → D c i k = C c i k
theorem kCx.rfl {C : xR} : kCx C C := fun _ _ _ _ => by rfl
theorem kCx.trans {A B D : xR} (h : kCx A B) (g : kCx B D) : kCx A D := fun c i k e => (g c i k e).trans (h c i k e)
theorem kCx.u {A B : xR} {c i k : Nat} {v : Option Nat} (h : kCx A B) (hc : (Nat.beq c 9 || Nat.beq c 46 || Nat.beq c 47) = true) : kCx A (xu B c i k v) := fun c' i' k' e => by
  rw [xu_n, h c' i' k' e]
  rintro ⟨rfl, _, rfl⟩
  rw [hc] at e; cases e
theorem kCx.ur {A B : xR} {c i : Nat} {v : Nat → Option Nat} (h : kCx A B) (hc : (Nat.beq c 9 || Nat.beq c 46 || Nat.beq c 47) = true) : kCx A (xur B c i v) := fun c' i' k' e => by
  rw [xur_n, h c' i' k' e]
  rintro ⟨rfl, _⟩
  rw [hc] at e; cases e
theorem cx_pEnd {C : xR} {p : Nat} : kCx C (pEndR C p) := by unfold pEndR; exact (kCx.rfl.u rfl).ur rfl
theorem cx_pClr {C : xR} {p : Nat} : kCx C (pClrR C p) := by unfold pClrR; exact ((kCx.rfl.u rfl).ur rfl).trans cx_pEnd
theorem cx_pUnd {C : xR} {p : Nat} : kCx C (pUndR C p) := by unfold pUndR; exact ((kCx.rfl.ur rfl).u rfl).trans cx_pEnd
theorem cx_und3 {w : Int32} (s : xI × xR) : ∀ n, kCx s.2 (itS (kUnd3 w) s n).2
  | 0 => kCx.rfl
  | n + 1 => (cx_und3 s n).trans (by
      show kCx _ (kUnd3 w (itS (kUnd3 w) s n) n).2
      unfold kUnd3; split
      · exact cx_pClr
      · exact kCx.rfl)
theorem cx_undo {N : Nat} {w : Int32} {th : List xTh} {s : xI × xR} : kCx s.2 (kUndo N w th s).2 := by
  unfold kUndo; exact cx_und3 (w := w) (itA (kUnd2 w) (kUndT w th s.1) N, s.2) 16
/-- the kernel's own state: ints, references, things -/
abbrev kK : Type := xI × xR × List xTh
def KI (s : kK) (N m : Nat) : Prop := kWf s.1 N ∧ kRef s.2.1 N ∧ thOK s.2.2 N ∧ kNum s.1 N ∧ s.2.2.length ≤ m
noncomputable def kAbort (N : Nat) (s : kK) (p : Nat) : kK :=
  let u := kUndo N (nI p) s.2.2 (s.1, s.2.1)
  let A := xu (pEndI u.1 p) 0 0 17 (pEndI u.1 p 0 0 17 + 1)
  let C := pUndR u.2 p
  (kSwA N A C, C, kSwT (kSwA N A C) C (thEnd s.2.2 (nI p)))
/-- both -/
def kSx (s t : kK) : Prop := kFx s.1 t.1 ∧ kCx s.2.1 t.2.1
theorem kSx.rfl {s : kK} : kSx s s := ⟨kFx.rfl, kCx.rfl⟩
theorem kSx.trans {r s t : kK} (h : kSx r s) (g : kSx s t) : kSx r t := ⟨h.1.trans g.1, h.2.trans g.2⟩
theorem sx_abort {N p : Nat} {s : kK} : kSx s (kAbort N s p) := by
  unfold kAbort
  exact ⟨((fx_undo (s := (s.1, s.2.1))).trans (fx_pEnd.u rfl)).trans fx_swA, (cx_undo (s := (s.1, s.2.1))).trans cx_pUnd⟩
theorem KI.wf {s : kK} {N m : Nat} (h : KI s N m) : kWf s.1 N := h.1
theorem KI.rf {s : kK} {N m : Nat} (h : KI s N m) : kRef s.2.1 N := h.2.1
theorem KI.ok {s : kK} {N m : Nat} (h : KI s N m) : thOK s.2.2 N := h.2.2.1
theorem KI.nm {s : kK} {N m : Nat} (h : KI s N m) : kNum s.1 N := h.2.2.2.1
theorem KI.ln {s : kK} {N m : Nat} (h : KI s N m) : s.2.2.length ≤ m := h.2.2.2.2
theorem KI.abort {s : kK} {N m p : Nat} (h : KI s N m) : KI (kAbort N s p) N m := by
  unfold kAbort
  have w1 : kWf (kUndo N (nI p) s.2.2 (s.1, s.2.1)).1 N := kWf.undo (s := (s.1, s.2.1)) h.wf
  have r1 : kRef (kUndo N (nI p) s.2.2 (s.1, s.2.1)).2 N := kRef.undo (s := (s.1, s.2.1)) h.rf
  have f1 : kFx s.1 (kUndo N (nI p) s.2.2 (s.1, s.2.1)).1 := fx_undo (s := (s.1, s.2.1))
  exact ⟨(w1.pEnd.u rfl).swA, r1.pUnd, h.ok.end.swT, h.nm.fx ((f1.trans (fx_pEnd.u rfl)).trans fx_swA), len_swT (Nat.le_trans len_end h.ln)⟩
