set_option maxRecDepth 100000
theorem x_vr {G : xG} {M : xM} {n a b : Nat} {Q : Outcome → xS → Prop} {z : xS} {pc : Nat} {L : List (Nat × Value)} {st : List Value} {f : Nat → Nat} {r w : Option Nat} (h : r = w) (k : X G M n a b Q z pc L (va_re f w :: st)) : X G M n a b Q z pc L (va_re f r :: st) := by rw [h]; exact k
section KC
variable {A t : xI} {C u : xR}
theorem kI_xfil {c i s k : Nat} {w : Nat → Int32} (h : kN c) : xfil (kI A t) c i s k w = kI (xfil A c i s k w) t := by
  unfold xfil; rw [kI_xur h, h.i]
theorem kI_pEndI {p : Nat} : pEndI (kI A t) p = kI (pEndI A p) t := by unfold pEndI; (repeat (first | rw [kI_xu] | rw [kI_xur] | rw [kI_xfil])) <;> rfl
theorem kI_pClrI {p : Nat} : pClrI (kI A t) p = kI (pClrI A p) t := by unfold pClrI; rw [← kI_pEndI]; (repeat (first | rw [kI_xu] | rw [kI_xur] | rw [kI_xfil])) <;> rfl
theorem kR_pEndR {p : Nat} : pEndR (kR C u) p = kR (pEndR C p) u := by unfold pEndR; rw [kR_xu (c := 9) rfl, kR_xur (c := 47) rfl]
theorem kR_pClrR {p : Nat} : pClrR (kR C u) p = kR (pClrR C p) u := by unfold pClrR; rw [kR_xu (c := 9) rfl, kR_xur (c := 46) rfl, kR_pEndR]
theorem kI_iClr {i : Nat} : iClr (kI A t) i = kI (iClr A i) t := by unfold iClr iClr0; (repeat (first | rw [kI_xu] | rw [kI_xur] | rw [kI_xfil])) <;> rfl
theorem kI_iUndoS {i : Nat} {w : Int32} : iUndoS (kI A t) i w = kI (iUndoS A i w) t := by unfold iUndoS; (repeat (first | rw [kI_xu] | rw [kI_xur] | rw [kI_xfil])) <;> rfl
theorem kI_iKeepS {i : Nat} {w : Int32} : iKeepS (kI A t) i w = kI (iKeepS A i w) t := by unfold iKeepS; (repeat (first | rw [kI_xu] | rw [kI_xur] | rw [kI_xfil])) <;> rfl
theorem kI_kSaveD {q : Nat} : kSaveD (kI A t) q = kI (kSaveD A q) t := by unfold kSaveD; (repeat (first | rw [kI_xu] | rw [kI_xur] | rw [kI_xfil])) <;> rfl
theorem kI_kSaveP {q : Nat} : kSaveP (kI A t) q = kI (kSaveP A q) t := by unfold kSaveP; (repeat (first | rw [kI_xu] | rw [kI_xur] | rw [kI_xfil])) <;> rfl
theorem kI_kRestD {q : Nat} : kRestD (kI A t) q = kI (kRestD A q) t := by unfold kRestD; (repeat (first | rw [kI_xu] | rw [kI_xur] | rw [kI_xfil])) <;> rfl
theorem kI_kRestP {q : Nat} : kRestP (kI A t) q = kI (kRestP A q) t := by unfold kRestP; (repeat (first | rw [kI_xu] | rw [kI_xur] | rw [kI_xfil])) <;> rfl
theorem kI_ite {p : Prop} [Decidable p] {X Y : xI} : (if p then kI X t else kI Y t) = kI (if p then X else Y) t := by split <;> rfl
theorem kI_kSave {g : Int32} {q : Nat} : kSave (kI A t) g q = kI (kSave A g q) t := by
  unfold kSave; rw [kI_kSaveD, kI_kSaveP, kI_xu (c := 6) rfl, kI_xu (c := 6) rfl, kI_xu (c := 6) rfl, kI_xu (c := 7) rfl, kI_xu (c := 9) rfl]
  repeat rw [kI_ite]
  rfl
theorem kI_kRest {g : Int32} {q : Nat} : kRest (kI A t) g q = kI (kRest A g q) t := by
  unfold kRest; rw [kI_kRestD, kI_kRestP, kI_xu (c := 6) rfl, kI_xu (c := 6) rfl, kI_xu (c := 6) rfl, kI_xu (c := 7) rfl, kI_xu (c := 9) rfl]
  repeat rw [kI_ite]
  rfl
end KC
theorem kWf.u {I : xI} {N c i k : Nat} {v : Int32} (h : kWf I N) (hc : wfB N c k = none) : kWf (xu I c i k v) N := fun c' i' k' m e => by
  rw [xu_n]
  · exact h _ _ _ _ e
  · rintro ⟨rfl, _, rfl⟩; rw [hc] at e; cases e
theorem kWf.ul {I : xI} {N c i k m : Nat} {v : Int32} (h : kWf I N) (hc : wfB N c k = some m) (hv : kLn v m) : kWf (xu I c i k v) N := fun c' i' k' m' e => by
  by_cases q : c' = c ∧ i' = i ∧ k' = k
  · obtain ⟨rfl, rfl, rfl⟩ := q
    rw [xu_eq]; rw [hc] at e; cases e; exact hv
  · rw [xu_n q]; exact h _ _ _ _ e
theorem kWf.ur {I : xI} {N c i : Nat} {v : Nat → Int32} (h : kWf I N) (hc : ∀ k, wfB N c k = none) : kWf (xur I c i v) N := fun c' i' k' m e => by
  rw [xur_n]
  · exact h _ _ _ _ e
  · rintro ⟨rfl, _⟩; rw [hc] at e; cases e
theorem kWf.url {I : xI} {N c i m : Nat} {v : Nat → Int32} (h : kWf I N) (hc : ∀ k, wfB N c k = some m) (hv : ∀ j, kLn (v j) m) : kWf (xur I c i v) N := fun c' i' k' m' e => by
  by_cases q : c' = c ∧ i' = i
  · obtain ⟨rfl, rfl⟩ := q
    rw [xur_eq]; rw [hc] at e; cases e; exact hv _
  · rw [xur_n q]; exact h _ _ _ _ e
theorem kWf.rest {I : xI} {N q : Nat} {g : Int32} (h : kWf I N) : kWf (kRest I g q) N := by
  unfold kRest
  split
  · exact ((h.ur (fun _ => rfl)).ul rfl (h.hlen q)).u rfl
  · split
    · exact (h.u rfl).u rfl
    · split
      · exact h.ul rfl (h 6 q 8 _ rfl)
      · split
        · exact h.ul rfl (h 7 q 7 _ rfl)
        · split
          · exact (h.ur (fun _ => rfl)).ul rfl (h.phs q)
          · split
            · exact h.u rfl
            · exact h
theorem kWf.save {I : xI} {N q : Nat} {g : Int32} (h : kWf I N) : kWf (kSave I g q) N := by
  unfold kSave
  split
  · exact ((h.ur (fun _ => rfl)).ul rfl (h.len q)).u rfl
  · split
    · exact (h.u rfl).u rfl
    · split
      · exact h.ul rfl (h 6 q 4 _ rfl)
      · split
        · exact h.ul rfl (h 7 q 6 _ rfl)
        · split
          · exact (h.ur (fun _ => rfl)).ul rfl (h.psz q)
          · split
            · exact h.u rfl
            · exact h
theorem kLn0 (m : Nat) : kLn 0 m := ⟨by decide, Nat.zero_le _⟩
theorem kWf.clr {I : xI} {N i : Nat} (h : kWf I N) : kWf (iClr I i) N := by
  unfold iClr iClr0
  repeat' (first | exact h | exact kLn0 _ | exact (fun _ => kLn0 _) | refine kWf.u ?_ rfl | refine kWf.ur ?_ (fun _ => rfl) | refine kWf.url ?_ (fun _ => rfl) ?_ | refine kWf.ul ?_ rfl ?_)
theorem kWf.pEnd {I : xI} {N p : Nat} (h : kWf I N) : kWf (pEndI I p) N := by
  unfold pEndI
  repeat' (first | exact h | exact kLn0 _ | refine kWf.u ?_ rfl | refine kWf.ul ?_ rfl ?_)
theorem kWf.pClr {I : xI} {N p : Nat} (h : kWf I N) : kWf (pClrI I p) N := by
  unfold pClrI
  refine kWf.pEnd ?_
  repeat' (first | exact h | exact kLn0 _ | refine kWf.u ?_ rfl | refine kWf.ul ?_ rfl ?_)
theorem kLn_ite {p : Prop} [Decidable p] {a b : Int32} {m : Nat} (h1 : kLn a m) (h2 : kLn b m) : kLn (if p then a else b) m := by split <;> assumption
theorem kWf.undoS {I : xI} {N i : Nat} {w : Int32} (h : kWf I N) : kWf (iUndoS I i w) N := by
  unfold iUndoS; exact (h.url (fun _ => rfl) (fun j => kLn_ite (h.kept i j) (h.now i j))).ur (fun _ => rfl)
theorem kWf.keepS {I : xI} {N i : Nat} {w : Int32} (h : kWf I N) : kWf (iKeepS I i w) N := by
  unfold iKeepS; exact (h.url (fun _ => rfl) (fun j => kLn_ite (h.now i j) (h.kept i j))).ur (fun _ => rfl)
