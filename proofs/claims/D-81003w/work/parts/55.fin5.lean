set_option maxRecDepth 100000
/-! the finishing does not see the things -/
section KC5
variable {A t : xI}
theorem kI_cif {p : Prop} {X Y : xI} : cif p (kI X t) (kI Y t) = kI (cif p X Y) t := by
  by_cases h : p
  · rw [cif_t h, cif_t h]
  · rw [cif_f h, cif_f h]
theorem kI_itA {f : xI → Nat → xI} (h : ∀ A k, f (kI A t) k = kI (f A k) t) : ∀ n, itA f (kI A t) n = kI (itA f A n) t
  | 0 => rfl
  | n + 1 => by show f (itA f (kI A t) n) n = kI (f (itA f A n) n) t; rw [kI_itA h n, h]
def kIB (t : xI) (r : Bool × xI) : Bool × xI := (r.1, kI r.2 t)
def kIN (t : xI) (r : Nat × xI) : Nat × xI := (r.1, kI r.2 t)
def kIJ (t : xI) (r : Int32 × xI) : Int32 × xI := (r.1, kI r.2 t)
theorem kIB_cif {p : Prop} {X Y : Bool × xI} : cif p (kIB t X) (kIB t Y) = kIB t (cif p X Y) := by
  by_cases h : p
  · rw [cif_t h, cif_t h]
  · rw [cif_f h, cif_f h]
theorem kIN_cif {p : Prop} {X Y : Nat × xI} : cif p (kIN t X) (kIN t Y) = kIN t (cif p X Y) := by
  by_cases h : p
  · rw [cif_t h, cif_t h]
  · rw [cif_f h, cif_f h]
theorem kI_put16 {c i p : Nat} {v : Int32} (h : kN c) : put16 (kI A t) c i p v = kI (put16 A c i p v) t := by unfold put16; rw [kI_xu h, kI_xu h]
theorem kI_hAdd {m : Nat} {v : Int32} : hAdd (kI A t) m v = kI (hAdd A m v) t := by unfold hAdd; (repeat (first | rw [kI_xu] | rw [kI_xur] | rw [kI_xfil] | rw [kI_put16])) <;> rfl
theorem kI_kDW0 : kDW0 (kI A t) = kI (kDW0 A) t := by unfold kDW0; (repeat (first | rw [kI_xu] | rw [kI_xur] | rw [kI_xfil] | rw [kI_put16])) <;> rfl
theorem kI_kDW {b s : Nat} {f : Nat → Int32} : kDW (kI A t) b f s = kI (kDW A b f s) t := by
  unfold kDW; rw [kI_kDW0, kI_xur (c := 35) rfl, kI_xu (c := 35) rfl, kI_xu (c := 5) rfl, kI_xur (c := 35) rfl]; exact kI_ite
theorem kI_kTkI {B D Lg : Nat} : kTkI B D Lg (kI A t) = kI (kTkI B D Lg A) t := by
  unfold kTkI
  have e : kTk B D Lg (kI A t) = kTk B D Lg A := rfl
  rw [e]
  cases kTk B D Lg A with
  | none => rfl
  | some k => exact kI_xu rfl
theorem kI_kMt1 {B D Lg k : Nat} : kMt1 B D Lg (kI A t) k = kI (kMt1 B D Lg A k) t := by unfold kMt1; exact kI_xu rfl
theorem kI_kMtb {i k : Nat} : kMtb i (kI A t) k = kI (kMtb i A k) t := by unfold kMtb; exact kI_xu rfl
theorem kI_kMt2 {i : Nat} : kMt2 (kI A t) i = kI (kMt2 A i) t := by
  unfold kMt2
  have e : itA (kMtb i) (kI A t) (iN (kI A t 6 i 17)) = kI (itA (kMtb i) A (iN (A 6 i 17))) t := kI_itA (fun _ _ => kI_kMtb) _
  rw [e, kI_xu (c := 22) rfl]; exact kI_ite
theorem kI_kMkT {N B D Lg : Nat} : kMkT N B D Lg (kI A t) = kI (kMkT N B D Lg A) t := by
  unfold kMkT; rw [kI_itA (f := kMt1 B D Lg) (fun _ _ => kI_kMt1), kI_itA (f := kMt2) (fun _ _ => kI_kMt2)]
theorem kI_kLayA {B D Lg i : Nat} : kLayA B D Lg i (kI A t) = kI (kLayA B D Lg i A) t := by
  unfold kLayA; rw [kI_kTkI, kI_xu (c := 6) rfl]; exact kI_ite
theorem kI_kLay1 {B D Lg i : Nat} : kLay1 B D Lg i (kI A t) = kIB t (kLay1 B D Lg i A) := by
  unfold kLay1
  have e : kTk B D Lg (kLayA B D Lg i (kI A t)) = kTk B D Lg (kLayA B D Lg i A) := by rw [kI_kLayA]; rfl
  rw [e, kI_kLayA]
  cases kTk B D Lg (kLayA B D Lg i A) with
  | none => exact kIB_cif (X := (false, _)) (Y := (false, _))
  | some b =>
    show cif _ _ (true, xu (xu (xu (kI (kLayA B D Lg i A) t) 22 0 b 1) 6 i 24 _) 39 i _ _) = _
    rw [kI_xu (c := 22) rfl, kI_xu (c := 6) rfl, kI_xu (c := 39) rfl]
    exact kIB_cif (X := (false, _)) (Y := (true, _))
theorem kI_kLayN {B D Lg i : Nat} : ∀ (n : Nat) (A : xI), kLayN B D Lg i n (kI A t) = kIB t (kLayN B D Lg i n A)
  | 0, A => rfl
  | n + 1, A => by
    show (match kLay1 B D Lg i (kI A t) with | (true, I') => kLayN B D Lg i n I' | (false, I') => (false, I') : Bool × xI) = kIB t (match kLay1 B D Lg i A with | (true, I') => kLayN B D Lg i n I' | (false, I') => (false, I') : Bool × xI)
    rw [kI_kLay1]
    generalize kLay1 B D Lg i A = r
    obtain ⟨b, I'⟩ := r
    cases b
    · rfl
    · exact kI_kLayN n I'
theorem kI_kLayE {i nd : Nat} : kLayE i nd (kI A t) = kI (kLayE i nd A) t := by unfold kLayE; rw [kI_xu (c := 6) rfl, kI_xu (c := 6) rfl]; exact kI_ite
theorem kI_kLay {B D Lg i : Nat} : kLay B D Lg i (kI A t) = kIB t (kLay B D Lg i A) := by
  unfold kLay
  have e : kLayN B D Lg i ((iN (kI A t 6 i 22) + 128 - 1) / 128 - iN (kI A t 6 i 24)) (kI A t) = kIB t (kLayN B D Lg i ((iN (A 6 i 22) + 128 - 1) / 128 - iN (A 6 i 24)) A) := kI_kLayN _ A
  rw [e]
  generalize kLayN B D Lg i ((iN (A 6 i 22) + 128 - 1) / 128 - iN (A 6 i 24)) A = r
  obtain ⟨b, I'⟩ := r
  cases b
  · rfl
  · show (true, kLayE i _ (kI I' t)) = _; rw [kI_kLayE]; rfl
theorem kI_kPlS {i s : Nat} {w : Int32} : kPlS i w (kI A t) s = kI (kPlS i w A s) t := by unfold kPlS; rw [kI_xu (c := 6) rfl]; exact kI_ite
theorem kI_kPl1 {M : Prop} {i : Nat} : kPl1 M i (kI A t) = kI (kPl1 M i A) t := by unfold kPl1; exact kI_xu rfl
theorem kI_kPl2 {M : Prop} {i : Nat} {w : Int32} : kPl2 M i w (kI A t) = kI (kPl2 M i w A) t := by unfold kPl2; exact kI_xu rfl
theorem kI_kPl3 {M : Prop} {i : Nat} {w : Int32} : kPl3 M i w (kI A t) = kI (kPl3 M i w A) t := by unfold kPl3; exact kI_xu rfl
theorem kI_kPl4 {i : Nat} : kPl4 i (kI A t) = kI (kPl4 i A) t := by unfold kPl4; rw [kI_xu (c := 6) rfl]; exact kI_cif
theorem kI_kPl5 {S : Prop} {i : Nat} {w : Int32} : kPl5 S i w (kI A t) = kI (kPl5 S i w A) t := by unfold kPl5; rw [kI_itA (f := kPlS i w) (fun _ _ => kI_kPlS)]; exact kI_cif
theorem kI_kPl6 {i : Nat} : kPl6 i (kI A t) = kI (kPl6 i A) t := by unfold kPl6; rw [kI_xu (c := 6) rfl, kI_xu (c := 6) rfl]; rfl
theorem kI_kPl7 {i : Nat} : kPl7 i (kI A t) = kI (kPl7 i A) t := by unfold kPl7; rw [kI_xfil (c := 39) rfl]; rfl
theorem kI_kPl8 {M S : Prop} {i : Nat} {w : Int32} : kPl8 M S i w (kI A t) = kI (kPl8 M S i w A) t := by unfold kPl8; exact kI_xu rfl
theorem kI_kPl9 {M : Prop} {i : Nat} : kPl9 M i (kI A t) = kI (kPl9 M i A) t := by unfold kPl9; rw [kI_xu (c := 6) rfl]; exact kI_cif
theorem kI_kPlA {i : Nat} {w : Int32} : kPlA i w (kI A t) = kI (kPlA i w A) t := by
  unfold kPlA; rw [kI_kPl1, kI_kPl2, kI_kPl3, kI_kPl4, kI_kPl5, kI_kPl6, kI_kPl7, kI_kPl8, kI_kPl9]; rfl
theorem kI_kPlan {B D Lg i : Nat} {w : Int32} : kPlan B D Lg i w (kI A t) = kIB t (kPlan B D Lg i w A) := by
  unfold kPlan; rw [kI_kPlA, kI_kLay]; exact kIB_cif (X := (true, _))
theorem kI_kPls {B D Lg : Nat} {w : Int32} : ∀ n, kPls B D Lg w (kI A t) n = kIB t (kPls B D Lg w A n)
  | 0 => rfl
  | n + 1 => by
    show (match kPls B D Lg w (kI A t) n with | (false, I') => (false, I') | (true, I') => kPlan B D Lg n w I' : Bool × xI) = kIB t (match kPls B D Lg w A n with | (false, I') => (false, I') | (true, I') => kPlan B D Lg n w I' : Bool × xI)
    rw [kI_kPls n]
    generalize kPls B D Lg w A n = r
    obtain ⟨b, I'⟩ := r
    cases b
    · rfl
    · exact kI_kPlan
theorem kI_kDs1 {i bl s : Nat} {w : Int32} : kDs1 i bl w (kI A t) s = kI (kDs1 i bl w A s) t := by unfold kDs1; rw [kI_put16 (c := 20) rfl, kI_xfil (c := 20) rfl]; rfl
theorem kI_kDs {i bl : Nat} {w : Int32} : kDs i bl w (kI A t) = kI (kDs i bl w A) t := by unfold kDs; exact kI_itA (f := fun I k => kDs1 i bl w I (8 * bl + k)) (fun _ _ => kI_kDs1) 8
theorem kI_kDr1 {i : Nat} : kDr1 i (kI A t) = kI (kDr1 i A) t := by unfold kDr1; rw [kI_xu (c := 20) rfl, kI_xu (c := 20) rfl, kI_put16 (c := 20) rfl]; rfl
theorem kI_kDrB {i k : Nat} : kDrB i (kI A t) k = kI (kDrB i A k) t := by unfold kDrB; exact kI_put16 rfl
theorem kI_kDrI {i k : Nat} : kDrI i (kI A t) k = kI (kDrI i A k) t := by unfold kDrI; exact kI_put16 rfl
theorem kI_kDr2 {i : Nat} : kDr2 i (kI A t) = kI (kDr2 i A) t := by unfold kDr2; rw [kI_xfil (c := 20) rfl, kI_itA (f := kDrI i) (fun _ _ => kI_kDrI)]; exact kI_ite
theorem kI_kDrD {i k : Nat} {w : Int32} : kDrD i w (kI A t) k = kI (kDrD i w A k) t := by unfold kDrD; rw [kI_kDs, kI_xur (c := 20) rfl, kI_cif, kI_cif]; rfl
theorem kI_kDr3 {i : Nat} {w : Int32} : kDr3 i w (kI A t) = kI (kDr3 i w A) t := by unfold kDr3; exact kI_itA (f := kDrD i w) (fun _ _ => kI_kDrD) _
theorem kI_kDraw0 {i : Nat} {w : Int32} : kDraw0 i w (kI A t) = kI (kDraw0 i w A) t := by
  unfold kDraw0; rw [kI_kDr1, kI_itA (f := kDrB i) (fun _ _ => kI_kDrB), kI_put16 (c := 20) rfl, kI_kDr2, kI_kDr3]; rfl
theorem kI_kDraw {i : Nat} {w : Int32} : kDraw i w (kI A t) = kI (kDraw i w A) t := by unfold kDraw; rw [kI_xfil (c := 20) rfl, kI_kDraw0]; exact kI_ite
theorem kI_kDr {i : Nat} {w : Int32} : kDr w (kI A t) i = kI (kDr w A i) t := by unfold kDr; rw [kI_kDraw]; exact kI_ite
theorem kI_kCh : ∀ n, kCh (kI A t) n = kIN t (kCh A n)
  | 0 => rfl
  | n + 1 => by
    show cif (kOther (kCh (kI A t) n).2 n) ((kCh (kI A t) n).1 + 1, xu (kCh (kI A t) n).2 21 0 (kCh (kI A t) n).1 (nI n)) (kCh (kI A t) n) = kIN t (cif (kOther (kCh A n).2 n) ((kCh A n).1 + 1, xu (kCh A n).2 21 0 (kCh A n).1 (nI n)) (kCh A n))
    rw [kI_kCh n]
    show cif (kOther (kI (kCh A n).2 t) n) ((kCh A n).1 + 1, xu (kI (kCh A n).2 t) 21 0 (kCh A n).1 (nI n)) (kIN t (kCh A n)) = _
    rw [kI_xu (c := 21) rfl]
    exact kIN_cif (X := ((kCh A n).1 + 1, _))
theorem kI_kHd0 {s : Int32} : kHd0 (kI A t) s = kI (kHd0 A s) t := by unfold kHd0; rw [kI_xur (c := 30) rfl, kI_xu (c := 1) rfl]
theorem kI_kHdC : kHdC (kI A t) = kI (kHdC A) t := by
  unfold kHdC
  have e : kHd0 (kI A t) (kI A t 5 0 8) = kI (kHd0 A (A 5 0 8)) t := kI_kHd0
  rw [e, kI_xfil (c := 30) rfl]; rfl
theorem kI_kClrH {D : Nat} : kClrH (kI A t) D = kI (kClrH A D) t := by unfold kClrH; rw [kI_kHdC, kI_kDW]; rfl
theorem kI_kWh {k : Nat} : kWh (kI A t) k = kI (kWh A k) t := by unfold kWh; exact kI_hAdd
theorem kSm_kI {s : Int64} : ∀ n, kSm (kI A t) s n = kSm A s n
  | 0 => rfl
  | n + 1 => by
    show sumF (fun j => kI A t 20 0 (128 * iN (kI A t 21 0 n) + j)) (kSm (kI A t) s n) 128 = _
    rw [kSm_kI n]; rfl
theorem kI_kWhd {n : Nat} : kWhd n (kI A t) = kI (kWhd n A) t := by
  unfold kWhd
  have e : itA kWh (kHd0 (kI A t) (kI A t 5 0 8 + 1)) n = kI (itA kWh (kHd0 A (A 5 0 8 + 1)) n) t := by
    have e1 : kHd0 (kI A t) (kI A t 5 0 8 + 1) = kI (kHd0 A (A 5 0 8 + 1)) t := kI_kHd0
    rw [e1]; exact kI_itA (f := kWh) (fun _ _ => kI_kWh) n
  rw [e, kI_xfil (c := 30) rfl, kSm_kI]; rfl
theorem kI_kWr {f : xI → Nat → xI} (h : ∀ A k, f (kI A t) k = kI (f A k) t) : ∀ n, kWr f (kI A t) n = kIB t (kWr f A n)
  | 0 => rfl
  | n + 1 => by
    show (match kWr f (kI A t) n with | (false, I') => (false, I') | (true, I') => if I' 5 0 5 = 1 then (false, f I' n) else (true, f I' n) : Bool × xI) = kIB t (match kWr f A n with | (false, I') => (false, I') | (true, I') => if I' 5 0 5 = 1 then (false, f I' n) else (true, f I' n) : Bool × xI)
    rw [kI_kWr h n]
    generalize kWr f A n = r
    obtain ⟨b, I'⟩ := r
    cases b
    · rfl
    · show (if I' 5 0 5 = 1 then (false, f (kI I' t) n) else (true, f (kI I' t) n)) = kIB t (if I' 5 0 5 = 1 then (false, f I' n) else (true, f I' n))
      rw [h]; split <;> rfl
theorem kI_kWlg {D k : Nat} : kWlg D (kI A t) k = kI (kWlg D A k) t := by unfold kWlg; rw [kI_kDW]; rfl
theorem kI_kWpl {k : Nat} : kWpl (kI A t) k = kI (kWpl A k) t := by unfold kWpl; rw [kI_kDW]; rfl
theorem kI_kWa2 {D n : Nat} : kWa2 D n (kI A t) = kIB t (kWa2 D n A) := by
  unfold kWa2; rw [kI_kWr (f := kWpl) (fun _ _ => kI_kWpl)]
  generalize kWr kWpl A n = r
  obtain ⟨b, I'⟩ := r
  cases b
  · rfl
  · show (true, kClrH (kI I' t) D) = _; rw [kI_kClrH]; rfl
theorem kI_kWa1 {D n : Nat} : kWa1 D n (kI A t) = kIB t (kWa1 D n A) := by
  unfold kWa1
  have e : kDW (kI A t) (1 + D) (kI A t 30 0) 0 = kI (kDW A (1 + D) (A 30 0) 0) t := kI_kDW
  rw [e, kI_xu (c := 5) rfl, kI_kWa2]
  show (if A 5 0 5 = 1 then _ else _) = kIB t (if A 5 0 5 = 1 then _ else _)
  split <;> rfl
theorem kI_kWall {D n : Nat} : kWall D n (kI A t) = kIB t (kWall D n A) := by
  unfold kWall; rw [kI_kWhd, kI_kWr (f := kWlg D) (fun _ _ => kI_kWlg)]
  generalize kWr (kWlg D) (kWhd n A) n = r
  obtain ⟨b, I'⟩ := r
  cases b
  · rfl
  · exact kI_kWa1
theorem kI_kMine {i k : Nat} {w : Int32} : kMine (kI A t) i k w = kI (kMine A i k w) t := by unfold kMine; rw [kI_xu (c := 6) rfl]; exact kI_ite
theorem kI_kKp0 {i : Nat} : kKp0 (kI A t) i = kI (kKp0 A i) t := by unfold kKp0; (repeat (first | rw [kI_xu] | rw [kI_xur] | rw [kI_xfil] | rw [kI_put16])) <;> rfl
theorem kI_kKeep {i : Nat} {w : Int32} : kKeep (kI A t) i w = kI (kKeep A i w) t := by
  unfold kKeep; rw [kI_kKp0, kI_xfil (c := 38) rfl, kI_iKeepS, kI_kMine, kI_kMine, kI_kMine]; rfl
theorem kI_kKp {i : Nat} {w : Int32} : kKp w (kI A t) i = kI (kKp w A i) t := by unfold kKp; rw [kI_kKeep]; exact kI_ite
theorem kI_kFd4 {N D n : Nat} {w : Int32} : kFd4 N D n w (kI A t) = kIJ t (kFd4 N D n w A) := by
  unfold kFd4; rw [kI_kWall, kI_itA (f := kKp w) (fun _ _ => kI_kKp)]
  split
  · generalize kWall D n A = r
    obtain ⟨b, I'⟩ := r
    cases b
    · rfl
    · show (0, itA (kKp w) (kI I' t) N) = _; rw [kI_itA (f := kKp w) (fun _ _ => kI_kKp)]; rfl
  · rfl
theorem kI_kFd2 {N B D Lg : Nat} {w : Int32} : kFd2 N B D Lg w (kI A t) = kIJ t (kFd2 N B D Lg w A) := by
  unfold kFd2; rw [kI_itA (f := kDr w) (fun _ _ => kI_kDr), kI_kCh]
  generalize kCh (itA (kDr w) A N) B = r
  unfold kFd3
  show (if Lg - 1 < r.1 then (-6, kI r.2 t) else kFd4 N D r.1 w (kI r.2 t)) = _
  rw [kI_kFd4]; split <;> rfl
/-- the finishing, beside the things -/
theorem kI_kFinD {N B D Lg : Nat} {w : Int32} : kFinD N B D Lg w (kI A t) = kIJ t (kFinD N B D Lg w A) := by
  unfold kFinD
  have e : kFd0 B (kI A t) = kI (kFd0 B A) t := by unfold kFd0; exact kI_xur rfl
  rw [e, kI_kMkT, kI_kPls]
  generalize kPls B D Lg w (kMkT N B D Lg (kFd0 B A)) N = r
  obtain ⟨b, I'⟩ := r
  cases b
  · rfl
  · exact kI_kFd2
theorem kI_kKil {p : Nat} {s : Int32} : kKil (kI A t) p s = kI (kKil A p s) t := by unfold kKil; rw [kI_xu (c := 9) rfl, kI_xu (c := 48) rfl]; exact kI_cif
end KC5
/-- a finishing by w: 0, FULL, LOST -/
noncomputable def kFin (N B D Lg : Nat) (w : Int32) (s : kK) : Int32 × kK := cif (∃ t ∈ s.2.2, thTree t w) ((kFinD N B D Lg w s.1).1, ((kFinD N B D Lg w s.1).2, s.2.1, s.2.2)) (0, s)

set_option maxHeartbeats 4000000 in
set_option maxRecDepth 100000 in
theorem c_X1_finishDisk {G : xG} {n : Nat} {Q : Outcome → xS → Prop} {x : kX} {I : xI} {R : xR} {v : kV} {th : List xTh} {mm : Nat} (hT : KT x v th) (hK : KI (I, R, th) x.N mm) {D Lg : Nat} (hD : kDp I x.N x.B D Lg) {w : Int32} (hn : 6 ≤ n) (hq : Q (.returned (some (.int (kFin x.N x.B D Lg w (I, R, th)).1))) (kS (kFin x.N x.B D Lg w (I, R, th)).2.1 R x v)) : xCall G mX1_finishDisk n [.ref (x.ad 0 0), .int w] (kS I R x v) Q := by
  refine x_met (L0 := [(1, .ref (x.ad 0 0)), (1, .int w), xo, xo, xo, xo, xo]) (by decide +kernel) rfl ⟨Nat.le_of_ble_eq_true rfl, rfl⟩ ?_
  refine x_aload_n 1 dX1_finishDisk_0 rfl rfl ?_
  refine x_getz 4 dX1_finishDisk_1 rfl fl_X1_46 (hT.ks.l0 (by omega)) (hT.ks.z0_9 (by omega)) ?_
  refine x_iload_n 5 dX1_finishDisk_4 rfl rfl ?_
  refine x_callV (as := [.int w]) (rest := []) (i := 0) (n' := n - 1) 8 dX1_finishDisk_5 rfl mv_X1_460 rfl rfl (hT.ks.l2 (by omega)) (xnh rfl) (by omega) (xst (Nat.le_of_ble_eq_true rfl)) (k_X3_hasTree hT (by omega) ?_)
  change X _ _ _ _ _ _ _ _ _ _
  refine x_vi (w := b2i (∃ t ∈ th, thTree t w)) rfl ?_
  refine x_if_ne 13 11 dX1_finishDisk_8 (by decide) rfl (fun c8 => ?_) (fun c8 => ?_)
  · skip
    have c8 : ∃ t ∈ th, thTree t w := b2i_n0.mp c8
    unfold kFin at hq; rw [cif_t c8] at hq
    have e_ := kI_kFinD (N := x.N) (B := x.B) (D := D) (Lg := Lg) (w := w) (A := I) (t := v.t)
    refine s13_fd (I := kI I v.t) (D := D) (Lg := Lg) hT.ks ⟨hD.1.k, hD.2.k⟩ (fun i hi => hK.nm.1 i hi) (fun i => hK.wf.len i) ?_ (by omega)
    rw [e_]; exact hq
  · skip
    have c8 : ¬ (∃ t ∈ th, thTree t w) := b2i_0.mp c8
    refine x_iconst (v := 0) 12 dX1_finishDisk_11 rfl rfl ?_
    refine x_ireturn dX1_finishDisk_12 rfl ?_
    unfold kFin at hq; rw [cif_f c8] at hq; exact hq
