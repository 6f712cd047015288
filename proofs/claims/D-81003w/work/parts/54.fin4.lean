set_option maxRecDepth 100000
/-! a finishing -/
noncomputable def kPls (B D Lg : Nat) (w : Int32) (I : xI) : Nat → Bool × xI
  | 0 => (true, I)
  | k + 1 => match kPls B D Lg w I k with
    | (false, I') => (false, I')
    | (true, I') => kPlan B D Lg k w I'
noncomputable def kDr (w : Int32) (I : xI) (i : Nat) : xI := if I 6 i 19 = 0 then I else kDraw i w I
noncomputable def kCh (I : xI) : Nat → Nat × xI
  | 0 => (0, I)
  | k + 1 => cif (kOther (kCh I k).2 k) ((kCh I k).1 + 1, xu (kCh I k).2 21 0 (kCh I k).1 (nI k)) (kCh I k)
def kKp (w : Int32) (I : xI) (i : Nat) : xI := if I 6 i 19 = 0 then I else kKeep I i w
noncomputable def kFd4 (N D n : Nat) (w : Int32) (I : xI) : Int32 × xI :=
  if 0 < n then (match kWall D n I with | (false, I') => (-15, I') | (true, I') => (0, itA (kKp w) I' N)) else (0, itA (kKp w) I N)
noncomputable def kFd3 (N D Lg : Nat) (w : Int32) (r : Nat × xI) : Int32 × xI := if Lg - 1 < r.1 then (-6, r.2) else kFd4 N D r.1 w r.2
noncomputable def kFd2 (N B D Lg : Nat) (w : Int32) (I : xI) : Int32 × xI := kFd3 N D Lg w (kCh (itA (kDr w) I N) B)
noncomputable def kFd1 (N B D Lg : Nat) (w : Int32) (r : Bool × xI) : Int32 × xI := match r with
  | (false, I') => (-6, I')
  | (true, I') => kFd2 N B D Lg w I'
def kFd0 (B : Nat) (I : xI) : xI := xur I 20 0 (va_cpy (I 35 0) (I 20 0) 0 0 (128 * B))
/-- what w did comes on the disk: 0, FULL, LOST -/
noncomputable def kFinD (N B D Lg : Nat) (w : Int32) (I : xI) : Int32 × xI := kFd1 N B D Lg w (kPls B D Lg w (kMkT N B D Lg (kFd0 B I)) N)
theorem kBool_ind {P : Bool × xI → Prop} {r : Bool × xI} (ht : ∀ I, r = (true, I) → P (true, I)) (hf : ∀ I, r = (false, I) → P (false, I)) : P r := by
  obtain ⟨b, I⟩ := r
  cases b
  · exact hf I rfl
  · exact ht I rfl
theorem kLay1_w {B D Lg i N : Nat} {I : xI} (hd : KD I N B D Lg) (hw : kBw I B) (hm : iN (I 6 i 24) < 64) : KD (kLay1 B D Lg i I).2 N B D Lg ∧ kBw (kLay1 B D Lg i I).2 B ∧ ((kLay1 B D Lg i I).1 = true → iN ((kLay1 B D Lg i I).2 6 i 24) = iN (I 6 i 24) + 1) := by
  have hA := kLayA_w (i := i) hd hw
  have hdn := hd.n
  unfold kLay1
  by_cases e : I 6 i 24 = 10 ∧ kTk B D Lg I = none
  · rw [cif_t e]; exact ⟨hA.1, hA.2, fun h => nomatch h⟩
  · rw [cif_f e]
    cases h : kTk B D Lg (kLayA B D Lg i I) with
    | none => exact ⟨hA.1, hA.2, fun h => nomatch h⟩
    | some b =>
      have hb := kTk_lt h
      refine ⟨((hA.1.u (by omega)).u (by omega)).u (by omega), ((hA.2.u rfl (by omega)).ul rfl (kLn.of (by omega) (by omega)) (by omega)).ul rfl (kLn.of (by omega) (by omega)) (by omega), fun _ => ?_⟩
      show iN (xu (xu (xu (kLayA B D Lg i I) 22 0 b 1) 6 i 24 (nI (iN (I 6 i 24) + 1))) 39 i (iN (I 6 i 24)) (nI b) 6 i 24) = _
      rw [xu_c (by decide), xu_eq, iN_nI (by omega)]
theorem kLay1_k {B D Lg i j k : Nat} {I : xI} (h25 : k ≠ 25) (h24 : k ≠ 24) : (kLay1 B D Lg i I).2 6 j k = I 6 j k := by
  unfold kLay1
  by_cases e : I 6 i 24 = 10 ∧ kTk B D Lg I = none
  · rw [cif_t e]; exact kLayA_k h25
  · rw [cif_f e]
    cases h : kTk B D Lg (kLayA B D Lg i I) with
    | none => exact kLayA_k h25
    | some b =>
      show xu (xu (xu (kLayA B D Lg i I) 22 0 b 1) 6 i 24 (nI (iN (I 6 i 24) + 1))) 39 i (iN (I 6 i 24)) (nI b) 6 j k = _
      rw [xu_c (by decide), xu_k h24, xu_c (by decide), kLayA_k h25]
theorem kLayN_w {B D Lg i N : Nat} : ∀ (n : Nat) {I : xI}, KD I N B D Lg → kBw I B → iN (I 6 i 24) + n ≤ 64 → KD (kLayN B D Lg i n I).2 N B D Lg ∧ kBw (kLayN B D Lg i n I).2 B ∧ ∀ j k, k ≠ 25 → k ≠ 24 → (kLayN B D Lg i n I).2 6 j k = I 6 j k
  | 0, I, hd, hw, _ => ⟨hd, hw, fun _ _ _ _ => rfl⟩
  | n + 1, I, hd, hw, hm => by
    have h1 := kLay1_w (i := i) hd hw (by omega)
    have h2 := fun j k (h25 : k ≠ 25) (h24 : k ≠ 24) => kLay1_k (B := B) (D := D) (Lg := Lg) (i := i) (j := j) (I := I) h25 h24
    show KD (match kLay1 B D Lg i I with | (true, I') => kLayN B D Lg i n I' | (false, I') => (false, I') : Bool × xI).2 N B D Lg ∧ kBw (match kLay1 B D Lg i I with | (true, I') => kLayN B D Lg i n I' | (false, I') => (false, I') : Bool × xI).2 B ∧ ∀ j k, k ≠ 25 → k ≠ 24 → (match kLay1 B D Lg i I with | (true, I') => kLayN B D Lg i n I' | (false, I') => (false, I') : Bool × xI).2 6 j k = I 6 j k
    generalize kLay1 B D Lg i I = r at h1 h2
    obtain ⟨b, I'⟩ := r
    cases b
    · exact ⟨h1.1, h1.2.1, h2⟩
    · have h3 : iN (I' 6 i 24) = iN (I 6 i 24) + 1 := h1.2.2 rfl
      have h4 := kLayN_w n h1.1 h1.2.1 (by show iN (I' 6 i 24) + n ≤ 64; omega)
      exact ⟨h4.1, h4.2.1, fun j k h25 h24 => (h4.2.2 j k h25 h24).trans (h2 j k h25 h24)⟩
theorem kLay_w {B D Lg i N : Nat} {I : xI} (hd : KD I N B D Lg) (hw : kBw I B) : KD (kLay B D Lg i I).2 N B D Lg ∧ kBw (kLay B D Lg i I).2 B ∧ ∀ j k, k ≠ 25 → k ≠ 24 → (kLay B D Lg i I).2 6 j k = I 6 j k := by
  have h1 := (hw.nl i).2
  have h2 := (hw.nm i).2
  have h3 := kLayN_w (i := i) ((iN (I 6 i 22) + 128 - 1) / 128 - iN (I 6 i 24)) hd hw (by omega)
  unfold kLay
  generalize kLayN B D Lg i ((iN (I 6 i 22) + 128 - 1) / 128 - iN (I 6 i 24)) I = r at h3
  obtain ⟨b, I'⟩ := r
  cases b
  · exact h3
  · have h4 : kBw (xu I' 6 i 24 (nI ((iN (I 6 i 22) + 128 - 1) / 128))) B := h3.2.1.ul rfl (kLn.of (by omega) (by omega)) (by omega)
    refine ⟨?_, ?_, fun j k h25 h24 => ?_⟩
    · show KD (kLayE i _ I') N B D Lg
      unfold kLayE; exact ((h3.1.u (by omega)).u (by omega)).ite (h3.1.u (by omega))
    · show kBw (kLayE i _ I') B
      unfold kLayE; exact (h4.ui (Or.inr (kLn0 _))).ite h4
    · show kLayE i _ I' 6 j k = _
      rw [← h3.2.2 j k h25 h24]
      unfold kLayE; split
      · rw [xu_k h25, xu_k h24]
      · rw [xu_k h24]
theorem kPlS_k {i j k n : Nat} {w : Int32} {K : xI} (h : k ≠ 22) : itA (kPlS i w) K n 6 j k = K 6 j k := by
  induction n with
  | zero => rfl
  | succ n ih =>
    show kPlS i w (itA (kPlS i w) K n) n 6 j k = _
    unfold kPlS; split
    · exact ih
    · rw [xu_k h]; exact ih
theorem kPlA_k {i j k : Nat} {w : Int32} {I : xI} (h : k < 19) : kPlA i w I 6 j k = I 6 j k := by
  have h4 : ∀ K : xI, kPl4 i K 6 j k = K 6 j k := fun K => by
    unfold kPl4
    by_cases e : iDir K i
    · rw [cif_t e, xu_k (by omega)]
    · rw [cif_f e]
  have h5 : ∀ (S : Prop) (K : xI), kPl5 S i w K 6 j k = K 6 j k := fun S K => by
    unfold kPl5
    by_cases e : S
    · rw [cif_t e, kPlS_k (by omega)]
    · rw [cif_f e]
  have h9 : ∀ (S : Prop) (K : xI), kPl9 S i K 6 j k = K 6 j k := fun S K => by
    unfold kPl9
    by_cases e : ¬ S ∧ K 6 i 13 = 0
    · rw [cif_t e, xu_k (by omega)]
    · rw [cif_f e]
  unfold kPlA; rw [h9]; unfold kPl8; rw [xu_k (by omega)]; unfold kPl7; rw [xfil_c (by decide)]; unfold kPl6; rw [xu_k (by omega), xu_k (by omega), h5, h4]; unfold kPl3; rw [xu_k (by omega)]; unfold kPl2; rw [xu_k (by omega)]; unfold kPl1; rw [xu_k (by omega)]
theorem kPlan_w {B D Lg i N : Nat} {w : Int32} {I : xI} (hP : kPw I N B D Lg i) : kDp (kPlan B D Lg i w I).2 N B D Lg ∧ ∀ j k, k < 19 → (kPlan B D Lg i w I).2 6 j k = I 6 j k := by
  have hA := hP.pA (w := w)
  unfold kPlan
  by_cases e : kPlA i w I 6 i 19 = 0 ∨ kPlA i w I 6 i 21 = 0
  · rw [cif_t e]; exact ⟨⟨hA.1, hA.2.1⟩, fun j k h => kPlA_k h⟩
  · rw [cif_f e]
    have h := kLay_w (i := i) hA.1 hA.2.1
    exact ⟨⟨h.1, h.2.1⟩, fun j k hk => (h.2.2 j k (by omega) (by omega)).trans (kPlA_k hk)⟩
theorem kPls_w {B D Lg N : Nat} {w : Int32} {I : xI} (hD : kDp I N B D Lg) (hl : ∀ i, kLn (I 6 i 3) 8192) : ∀ n, kDp (kPls B D Lg w I n).2 N B D Lg ∧ ∀ j k, k < 19 → (kPls B D Lg w I n).2 6 j k = I 6 j k
  | 0 => ⟨hD, fun _ _ _ => rfl⟩
  | n + 1 => by
    have ih := kPls_w (w := w) hD hl n
    show kDp (match kPls B D Lg w I n with | (false, I') => (false, I') | (true, I') => kPlan B D Lg n w I' : Bool × xI).2 N B D Lg ∧ ∀ j k, k < 19 → (match kPls B D Lg w I n with | (false, I') => (false, I') | (true, I') => kPlan B D Lg n w I' : Bool × xI).2 6 j k = I 6 j k
    generalize kPls B D Lg w I n = r at ih
    obtain ⟨b, I'⟩ := r
    cases b
    · exact ih
    · have h := kPlan_w (i := n) (w := w) (I := I') ⟨ih.1.1, ih.1.2, by rw [show I' 6 n 3 = I 6 n 3 from ih.2 n 3 (by omega)]; exact hl n⟩
      exact ⟨h.1, fun j k hk => (h.2 j k hk).trans (ih.2 j k hk)⟩
theorem kDr_c {w : Int32} {I : xI} {n c p q : Nat} (h : c ≠ 20) : itA (kDr w) I n c p q = I c p q := itA_c (f := kDr w) (fun A k p q => by unfold kDr; split; rfl; exact kDraw_c h) I n p q
theorem kDp.c20 {A A' : xI} {N B D Lg : Nat} (h : kDp A N B D Lg) (e : ∀ c p q, c ≠ 20 → A' c p q = A c p q) : kDp A' N B D Lg := ⟨h.1.of (fun k hk => e _ _ _ (by decide)), h.2.c20 e⟩
theorem kCh_w {N B D Lg : Nat} {I : xI} (hD : kDp I N B D Lg) : ∀ k, k ≤ B → kDp (kCh I k).2 N B D Lg ∧ (kCh I k).1 ≤ k
  | 0, _ => ⟨hD, Nat.le_refl _⟩
  | k + 1, hk => by
    obtain ⟨h1, h2⟩ := kCh_w hD k (by omega)
    have hn := hD.1.n
    show kDp (cif (kOther (kCh I k).2 k) ((kCh I k).1 + 1, xu (kCh I k).2 21 0 (kCh I k).1 (nI k)) (kCh I k)).2 N B D Lg ∧ (cif (kOther (kCh I k).2 k) ((kCh I k).1 + 1, xu (kCh I k).2 21 0 (kCh I k).1 (nI k)) (kCh I k)).1 ≤ k + 1
    by_cases e : kOther (kCh I k).2 k
    · rw [cif_t e]; exact ⟨⟨h1.1.u (by omega), h1.2.ul rfl (kLn.of (by omega) (by omega)) (by omega)⟩, by show (kCh I k).1 + 1 ≤ k + 1; omega⟩
    · rw [cif_f e]; exact ⟨h1, by omega⟩
theorem kKeep_24 {I : xI} {i j : Nat} {w : Int32} : kKeep I i w 6 j 24 = I 6 j 24 := by
  have h1 : ∀ (K : xI) k, k ≠ 24 → kMine K i k w 6 j 24 = K 6 j 24 := fun K k hk => by
    unfold kMine; split
    · rw [xu_k (fun e => hk e.symm)]
    · rfl
  unfold kKeep; rw [h1 _ 12 (by decide), h1 _ 11 (by decide), h1 _ 10 (by decide)]
  unfold iKeepS; rw [xur_c (by decide), xur_c (by decide), xfil_c (by decide)]
  unfold kKp0; rw [xu_k (by decide), xu_k (by decide), xu_k (by decide), xu_k (by decide), xu_k (by decide)]
theorem kKp_24 {w : Int32} {I : xI} {n j : Nat} : itA (kKp w) I n 6 j 24 = I 6 j 24 := by
  induction n with
  | zero => rfl
  | succ n ih =>
    show kKp w (itA (kKp w) I n) n 6 j 24 = _
    unfold kKp; split
    · exact ih
    · rw [kKeep_24]; exact ih
theorem kWall_w {N B D Lg n : Nat} {I : xI} (hD : kDp I N B D Lg) : kDp (kWall D n I).2 N B D Lg := by
  have h1 : kDp (kWr (kWlg D) (kWhd n I) n).2 N B D Lg := kDp.wr (f := kWlg D) (fun A k h => by unfold kWlg; exact h.dw) hD.whd n
  have h2 : ∀ I', kDp I' N B D Lg → kDp (kWa2 D n I').2 N B D Lg := fun I' h => by
    have h3 : kDp (kWr kWpl I' n).2 N B D Lg := kDp.wr (f := kWpl) (fun A k h => by unfold kWpl; exact h.dw) h n
    unfold kWa2
    generalize kWr kWpl I' n = r at h3
    obtain ⟨b, I2⟩ := r
    cases b
    · exact h3
    · exact h3.clrh
  unfold kWall
  generalize kWr (kWlg D) (kWhd n I) n = r at h1
  obtain ⟨b, I2⟩ := r
  cases b
  · exact h1
  · show kDp (kWa1 D n I2).2 N B D Lg
    unfold kWa1; split
    · exact kDp.dw h1
    · exact h2 _ ((kDp.dw h1).u rfl (by omega) (by omega))
theorem dX1_finishDisk_0 : decode cX1_finishDisk 0 = .ok (.aload_n 0, 1) := by decide +kernel
theorem dX1_finishDisk_1 : decode cX1_finishDisk 1 = .ok (.getfield 46, 3) := by decide +kernel
theorem dX1_finishDisk_4 : decode cX1_finishDisk 4 = .ok (.iload_n 1, 1) := by decide +kernel
theorem dX1_finishDisk_5 : decode cX1_finishDisk 5 = .ok (.invokevirtual 460, 3) := by decide +kernel
theorem dX1_finishDisk_8 : decode cX1_finishDisk 8 = .ok (.ifCond .ne 5, 3) := by decide +kernel
theorem dX1_finishDisk_11 : decode cX1_finishDisk 11 = .ok (.iconst 0, 1) := by decide +kernel
theorem dX1_finishDisk_12 : decode cX1_finishDisk 12 = .ok (.ireturn, 1) := by decide +kernel
theorem dX1_finishDisk_13 : decode cX1_finishDisk 13 = .ok (.aload_n 0, 1) := by decide +kernel
theorem dX1_finishDisk_14 : decode cX1_finishDisk 14 = .ok (.getfield 92, 3) := by decide +kernel
theorem dX1_finishDisk_17 : decode cX1_finishDisk 17 = .ok (.getfield 127, 3) := by decide +kernel
theorem dX1_finishDisk_20 : decode cX1_finishDisk 20 = .ok (.iconst 0, 1) := by decide +kernel
theorem dX1_finishDisk_21 : decode cX1_finishDisk 21 = .ok (.aload_n 0, 1) := by decide +kernel
theorem dX1_finishDisk_22 : decode cX1_finishDisk 22 = .ok (.getfield 99, 3) := by decide +kernel
theorem dX1_finishDisk_25 : decode cX1_finishDisk 25 = .ok (.iconst 0, 1) := by decide +kernel
theorem dX1_finishDisk_26 : decode cX1_finishDisk 26 = .ok (.aload_n 0, 1) := by decide +kernel
theorem dX1_finishDisk_27 : decode cX1_finishDisk 27 = .ok (.getfield 99, 3) := by decide +kernel
theorem dX1_finishDisk_30 : decode cX1_finishDisk 30 = .ok (.arraylength, 1) := by decide +kernel
theorem dX1_finishDisk_31 : decode cX1_finishDisk 31 = .ok (.invokestatic 148, 3) := by decide +kernel
theorem dX1_finishDisk_34 : decode cX1_finishDisk 34 = .ok (.aload_n 0, 1) := by decide +kernel
theorem dX1_finishDisk_35 : decode cX1_finishDisk 35 = .ok (.invokevirtual 463, 3) := by decide +kernel
theorem dX1_finishDisk_38 : decode cX1_finishDisk 38 = .ok (.aload_n 0, 1) := by decide +kernel
theorem dX1_finishDisk_39 : decode cX1_finishDisk 39 = .ok (.getfield 115, 3) := by decide +kernel
theorem dX1_finishDisk_42 : decode cX1_finishDisk 42 = .ok (.astore_n 2, 1) := by decide +kernel
theorem dX1_finishDisk_43 : decode cX1_finishDisk 43 = .ok (.aload_n 2, 1) := by decide +kernel
theorem dX1_finishDisk_44 : decode cX1_finishDisk 44 = .ok (.arraylength, 1) := by decide +kernel
theorem dX1_finishDisk_45 : decode cX1_finishDisk 45 = .ok (.istore_n 3, 1) := by decide +kernel
theorem dX1_finishDisk_46 : decode cX1_finishDisk 46 = .ok (.iconst 0, 1) := by decide +kernel
theorem dX1_finishDisk_47 : decode cX1_finishDisk 47 = .ok (.istore 4, 2) := by decide +kernel
theorem dX1_finishDisk_49 : decode cX1_finishDisk 49 = .ok (.iload 4, 2) := by decide +kernel
theorem dX1_finishDisk_51 : decode cX1_finishDisk 51 = .ok (.iload_n 3, 1) := by decide +kernel
theorem dX1_finishDisk_52 : decode cX1_finishDisk 52 = .ok (.if_icmp .ge 28, 3) := by decide +kernel
theorem dX1_finishDisk_55 : decode cX1_finishDisk 55 = .ok (.aload_n 2, 1) := by decide +kernel
theorem dX1_finishDisk_56 : decode cX1_finishDisk 56 = .ok (.iload 4, 2) := by decide +kernel
theorem dX1_finishDisk_58 : decode cX1_finishDisk 58 = .ok (.aaload, 1) := by decide +kernel
theorem dX1_finishDisk_59 : decode cX1_finishDisk 59 = .ok (.astore 5, 2) := by decide +kernel
theorem dX1_finishDisk_61 : decode cX1_finishDisk 61 = .ok (.aload_n 0, 1) := by decide +kernel
theorem dX1_finishDisk_62 : decode cX1_finishDisk 62 = .ok (.aload 5, 2) := by decide +kernel
theorem dX1_finishDisk_64 : decode cX1_finishDisk 64 = .ok (.iload_n 1, 1) := by decide +kernel
theorem dX1_finishDisk_65 : decode cX1_finishDisk 65 = .ok (.invokevirtual 466, 3) := by decide +kernel
theorem dX1_finishDisk_68 : decode cX1_finishDisk 68 = .ok (.ifCond .ne 6, 3) := by decide +kernel
theorem dX1_finishDisk_71 : decode cX1_finishDisk 71 = .ok (.bipush (-6), 2) := by decide +kernel
theorem dX1_finishDisk_73 : decode cX1_finishDisk 73 = .ok (.ireturn, 1) := by decide +kernel
theorem dX1_finishDisk_74 : decode cX1_finishDisk 74 = .ok (.iinc 4 1, 3) := by decide +kernel
theorem dX1_finishDisk_77 : decode cX1_finishDisk 77 = .ok (.goto (-28), 3) := by decide +kernel
theorem dX1_finishDisk_80 : decode cX1_finishDisk 80 = .ok (.aload_n 0, 1) := by decide +kernel
theorem dX1_finishDisk_81 : decode cX1_finishDisk 81 = .ok (.getfield 115, 3) := by decide +kernel
theorem dX1_finishDisk_84 : decode cX1_finishDisk 84 = .ok (.astore_n 2, 1) := by decide +kernel
theorem dX1_finishDisk_85 : decode cX1_finishDisk 85 = .ok (.aload_n 2, 1) := by decide +kernel
theorem dX1_finishDisk_86 : decode cX1_finishDisk 86 = .ok (.arraylength, 1) := by decide +kernel
theorem dX1_finishDisk_87 : decode cX1_finishDisk 87 = .ok (.istore_n 3, 1) := by decide +kernel
theorem dX1_finishDisk_88 : decode cX1_finishDisk 88 = .ok (.iconst 0, 1) := by decide +kernel
theorem dX1_finishDisk_89 : decode cX1_finishDisk 89 = .ok (.istore 4, 2) := by decide +kernel
theorem dX1_finishDisk_91 : decode cX1_finishDisk 91 = .ok (.iload 4, 2) := by decide +kernel
theorem dX1_finishDisk_93 : decode cX1_finishDisk 93 = .ok (.iload_n 3, 1) := by decide +kernel
theorem dX1_finishDisk_94 : decode cX1_finishDisk 94 = .ok (.if_icmp .ge 30, 3) := by decide +kernel
theorem dX1_finishDisk_97 : decode cX1_finishDisk 97 = .ok (.aload_n 2, 1) := by decide +kernel
theorem dX1_finishDisk_98 : decode cX1_finishDisk 98 = .ok (.iload 4, 2) := by decide +kernel
theorem dX1_finishDisk_100 : decode cX1_finishDisk 100 = .ok (.aaload, 1) := by decide +kernel
theorem dX1_finishDisk_101 : decode cX1_finishDisk 101 = .ok (.astore 5, 2) := by decide +kernel
theorem dX1_finishDisk_103 : decode cX1_finishDisk 103 = .ok (.aload 5, 2) := by decide +kernel
theorem dX1_finishDisk_105 : decode cX1_finishDisk 105 = .ok (.getfield 439, 3) := by decide +kernel
theorem dX1_finishDisk_108 : decode cX1_finishDisk 108 = .ok (.ifCond .eq 10, 3) := by decide +kernel
theorem dX1_finishDisk_111 : decode cX1_finishDisk 111 = .ok (.aload_n 0, 1) := by decide +kernel
theorem dX1_finishDisk_112 : decode cX1_finishDisk 112 = .ok (.aload 5, 2) := by decide +kernel
theorem dX1_finishDisk_114 : decode cX1_finishDisk 114 = .ok (.iload_n 1, 1) := by decide +kernel
theorem dX1_finishDisk_115 : decode cX1_finishDisk 115 = .ok (.invokevirtual 470, 3) := by decide +kernel
theorem dX1_finishDisk_118 : decode cX1_finishDisk 118 = .ok (.iinc 4 1, 3) := by decide +kernel
theorem dX1_finishDisk_121 : decode cX1_finishDisk 121 = .ok (.goto (-30), 3) := by decide +kernel
theorem dX1_finishDisk_124 : decode cX1_finishDisk 124 = .ok (.iconst 0, 1) := by decide +kernel
theorem dX1_finishDisk_125 : decode cX1_finishDisk 125 = .ok (.istore_n 2, 1) := by decide +kernel
theorem dX1_finishDisk_126 : decode cX1_finishDisk 126 = .ok (.iconst 0, 1) := by decide +kernel
theorem dX1_finishDisk_127 : decode cX1_finishDisk 127 = .ok (.istore_n 3, 1) := by decide +kernel
theorem dX1_finishDisk_128 : decode cX1_finishDisk 128 = .ok (.iload_n 3, 1) := by decide +kernel
theorem dX1_finishDisk_129 : decode cX1_finishDisk 129 = .ok (.aload_n 0, 1) := by decide +kernel
theorem dX1_finishDisk_130 : decode cX1_finishDisk 130 = .ok (.getfield 92, 3) := by decide +kernel
theorem dX1_finishDisk_133 : decode cX1_finishDisk 133 = .ok (.getfield 96, 3) := by decide +kernel
theorem dX1_finishDisk_136 : decode cX1_finishDisk 136 = .ok (.if_icmp .ge 27, 3) := by decide +kernel
theorem dX1_finishDisk_139 : decode cX1_finishDisk 139 = .ok (.aload_n 0, 1) := by decide +kernel
theorem dX1_finishDisk_140 : decode cX1_finishDisk 140 = .ok (.iload_n 3, 1) := by decide +kernel
theorem dX1_finishDisk_141 : decode cX1_finishDisk 141 = .ok (.invokevirtual 474, 3) := by decide +kernel
theorem dX1_finishDisk_144 : decode cX1_finishDisk 144 = .ok (.ifCond .eq 13, 3) := by decide +kernel
theorem dX1_finishDisk_147 : decode cX1_finishDisk 147 = .ok (.aload_n 0, 1) := by decide +kernel
theorem dX1_finishDisk_148 : decode cX1_finishDisk 148 = .ok (.getfield 102, 3) := by decide +kernel
theorem dX1_finishDisk_151 : decode cX1_finishDisk 151 = .ok (.iload_n 2, 1) := by decide +kernel
theorem dX1_finishDisk_152 : decode cX1_finishDisk 152 = .ok (.iinc 2 1, 3) := by decide +kernel
theorem dX1_finishDisk_155 : decode cX1_finishDisk 155 = .ok (.iload_n 3, 1) := by decide +kernel
theorem dX1_finishDisk_156 : decode cX1_finishDisk 156 = .ok (.iastore, 1) := by decide +kernel
theorem dX1_finishDisk_157 : decode cX1_finishDisk 157 = .ok (.iinc 3 1, 3) := by decide +kernel
theorem dX1_finishDisk_160 : decode cX1_finishDisk 160 = .ok (.goto (-32), 3) := by decide +kernel
theorem dX1_finishDisk_163 : decode cX1_finishDisk 163 = .ok (.iload_n 2, 1) := by decide +kernel
theorem dX1_finishDisk_164 : decode cX1_finishDisk 164 = .ok (.aload_n 0, 1) := by decide +kernel
theorem dX1_finishDisk_165 : decode cX1_finishDisk 165 = .ok (.getfield 92, 3) := by decide +kernel
theorem dX1_finishDisk_168 : decode cX1_finishDisk 168 = .ok (.getfield 477, 3) := by decide +kernel
theorem dX1_finishDisk_171 : decode cX1_finishDisk 171 = .ok (.iconst 1, 1) := by decide +kernel
theorem dX1_finishDisk_172 : decode cX1_finishDisk 172 = .ok (.isub, 1) := by decide +kernel
theorem dX1_finishDisk_173 : decode cX1_finishDisk 173 = .ok (.if_icmp .le 6, 3) := by decide +kernel
theorem dX1_finishDisk_176 : decode cX1_finishDisk 176 = .ok (.bipush (-6), 2) := by decide +kernel
theorem dX1_finishDisk_178 : decode cX1_finishDisk 178 = .ok (.ireturn, 1) := by decide +kernel
theorem dX1_finishDisk_179 : decode cX1_finishDisk 179 = .ok (.iload_n 2, 1) := by decide +kernel
theorem dX1_finishDisk_180 : decode cX1_finishDisk 180 = .ok (.ifCond .le 14, 3) := by decide +kernel
theorem dX1_finishDisk_183 : decode cX1_finishDisk 183 = .ok (.aload_n 0, 1) := by decide +kernel
theorem dX1_finishDisk_184 : decode cX1_finishDisk 184 = .ok (.iload_n 2, 1) := by decide +kernel
theorem dX1_finishDisk_185 : decode cX1_finishDisk 185 = .ok (.invokevirtual 480, 3) := by decide +kernel
theorem dX1_finishDisk_188 : decode cX1_finishDisk 188 = .ok (.ifCond .ne 6, 3) := by decide +kernel
theorem dX1_finishDisk_191 : decode cX1_finishDisk 191 = .ok (.bipush (-15), 2) := by decide +kernel
theorem dX1_finishDisk_193 : decode cX1_finishDisk 193 = .ok (.ireturn, 1) := by decide +kernel
theorem dX1_finishDisk_194 : decode cX1_finishDisk 194 = .ok (.aload_n 0, 1) := by decide +kernel
theorem dX1_finishDisk_195 : decode cX1_finishDisk 195 = .ok (.getfield 115, 3) := by decide +kernel
theorem dX1_finishDisk_198 : decode cX1_finishDisk 198 = .ok (.astore_n 3, 1) := by decide +kernel
theorem dX1_finishDisk_199 : decode cX1_finishDisk 199 = .ok (.aload_n 3, 1) := by decide +kernel
theorem dX1_finishDisk_200 : decode cX1_finishDisk 200 = .ok (.arraylength, 1) := by decide +kernel
theorem dX1_finishDisk_201 : decode cX1_finishDisk 201 = .ok (.istore 4, 2) := by decide +kernel
theorem dX1_finishDisk_203 : decode cX1_finishDisk 203 = .ok (.iconst 0, 1) := by decide +kernel
theorem dX1_finishDisk_204 : decode cX1_finishDisk 204 = .ok (.istore 5, 2) := by decide +kernel
theorem dX1_finishDisk_206 : decode cX1_finishDisk 206 = .ok (.iload 5, 2) := by decide +kernel
theorem dX1_finishDisk_208 : decode cX1_finishDisk 208 = .ok (.iload 4, 2) := by decide +kernel
theorem dX1_finishDisk_210 : decode cX1_finishDisk 210 = .ok (.if_icmp .ge 30, 3) := by decide +kernel
theorem dX1_finishDisk_213 : decode cX1_finishDisk 213 = .ok (.aload_n 3, 1) := by decide +kernel
theorem dX1_finishDisk_214 : decode cX1_finishDisk 214 = .ok (.iload 5, 2) := by decide +kernel
theorem dX1_finishDisk_216 : decode cX1_finishDisk 216 = .ok (.aaload, 1) := by decide +kernel
theorem dX1_finishDisk_217 : decode cX1_finishDisk 217 = .ok (.astore 6, 2) := by decide +kernel
theorem dX1_finishDisk_219 : decode cX1_finishDisk 219 = .ok (.aload 6, 2) := by decide +kernel
theorem dX1_finishDisk_221 : decode cX1_finishDisk 221 = .ok (.getfield 439, 3) := by decide +kernel
theorem dX1_finishDisk_224 : decode cX1_finishDisk 224 = .ok (.ifCond .eq 10, 3) := by decide +kernel
theorem dX1_finishDisk_227 : decode cX1_finishDisk 227 = .ok (.aload_n 0, 1) := by decide +kernel
theorem dX1_finishDisk_228 : decode cX1_finishDisk 228 = .ok (.aload 6, 2) := by decide +kernel
theorem dX1_finishDisk_230 : decode cX1_finishDisk 230 = .ok (.iload_n 1, 1) := by decide +kernel
theorem dX1_finishDisk_231 : decode cX1_finishDisk 231 = .ok (.invokevirtual 483, 3) := by decide +kernel
theorem dX1_finishDisk_234 : decode cX1_finishDisk 234 = .ok (.iinc 5 1, 3) := by decide +kernel
theorem dX1_finishDisk_237 : decode cX1_finishDisk 237 = .ok (.goto (-31), 3) := by decide +kernel
theorem dX1_finishDisk_240 : decode cX1_finishDisk 240 = .ok (.iconst 0, 1) := by decide +kernel
theorem dX1_finishDisk_241 : decode cX1_finishDisk 241 = .ok (.ireturn, 1) := by decide +kernel
set_option maxHeartbeats 4000000 in
set_option maxRecDepth 100000 in
theorem l206_fd {G : xG} {n a b : Nat} {Q : Outcome → xS → Prop} {J : xJ} {Z : xR} {T : xT} {R : xR} {I0 : xI} {N B : Nat} (hk : KS Z T N B) {w : Int32} (hnm : ∀ j, kLn (I0 6 j 24) 64) (hq : Q (.returned (some (.int 0))) (itA (kKp w) I0 N, J, R, Z, T)) (k : Nat) (I : xI) (hn : 3 ≤ n) :
    (k ≤ N) → (I = itA (kKp w) I0 k) → X G mX1_finishDisk n a b Q (I, J, R, Z, T) 206 [(1, .ref (T.ad 0 0)), (1, .int w), xo, (1, .ref (T.ad 23 0)), (1, .int (nI N)), (1, .int (nI k)), xo] [] := by
  induction hm : N - k using Nat.strongRecOn generalizing k I with
  | _ m_ ih =>
    intro h8 hI
    have hnb := hk.nb
    refine x_iload 208 dX1_finishDisk_206 rfl rfl ?_
    refine x_iload 210 dX1_finishDisk_208 rfl rfl ?_
    refine x_icmp_ge 240 213 dX1_finishDisk_210 (by decide) rfl (fun c210 => ?_) (fun c210 => ?_)
    · skip
      have c210 : N ≤ k := (nI_leI (a := N) (b := k) (by omega) (by omega)).mp c210
      refine x_iconst (v := 0) 241 dX1_finishDisk_240 rfl rfl ?_
      refine x_ireturn dX1_finishDisk_241 rfl ?_
      have e : k = N := by omega
      rw [hI, e]; exact hq
    · skip
      have c210 : ¬ (N ≤ k) := fun h => c210 ((nI_leI (a := N) (b := k) (by omega) (by omega)).mpr h)
      refine x_aload_n 214 dX1_finishDisk_213 rfl rfl ?_
      refine x_iload 216 dX1_finishDisk_214 rfl rfl ?_
      refine x_aldz 217 dX1_finishDisk_216 rfl ar_23 rfl (hk.l23 (by omega)) (xb (hk.n23 (by omega)) (by omega) (by omega)) (hk.z23 (by omega)) ?_
      refine x_astore 219 [(1, .ref (T.ad 0 0)), (1, .int w), xo, (1, .ref (T.ad 23 0)), (1, .int (nI N)), (1, .int (nI k)), (1, .ref (T.ad 6 k))] dX1_finishDisk_217 rfl (by decide) rfl ?_
      refine x_aload 221 dX1_finishDisk_219 rfl rfl ?_
      refine x_geti 224 dX1_finishDisk_221 rfl fl_X1_439 (hk.l6 (by omega)) ?_
      refine x_if_eq 234 227 dX1_finishDisk_224 (by decide) rfl (fun c224 => ?_) (fun c224 => ?_)
      · skip
        refine x_iinc 237 [(1, .ref (T.ad 0 0)), (1, .int w), xo, (1, .ref (T.ad 23 0)), (1, .int (nI N)), (1, .int (nI (k + 1))), (1, .ref (T.ad 6 k))] dX1_finishDisk_234 rfl (by decide) rfl (xi_1 k) rfl ?_
        refine x_goto 206 dX1_finishDisk_237 (by decide) ?_
        refine x_fgt [(1, .ref (T.ad 0 0)), (1, .int w), xo, (1, .ref (T.ad 23 0)), (1, .int (nI N)), (1, .int (nI (k + 1))), xo] ⟨Or.inr rfl, Or.inr rfl, Or.inl rfl, Or.inr rfl, Or.inr rfl, Or.inr rfl, Or.inl rfl, trivial⟩ ?_
        exact ih _ (by rw [← hm]; omega) (k + 1) I rfl (by omega) (by show _ = kKp w (itA (kKp w) I0 k) k; rw [← hI]; unfold kKp; rw [if_pos (by simpa using c224)])
      · skip
        refine x_aload_n 228 dX1_finishDisk_227 rfl rfl ?_
        refine x_aload 230 dX1_finishDisk_228 rfl rfl ?_
        refine x_iload_n 231 dX1_finishDisk_230 rfl rfl ?_
        refine x_callV (as := [.ref (T.ad 6 k), .int w]) (rest := []) (i := 0) (n' := n - 1) 234 dX1_finishDisk_231 rfl mv_X1_483 rfl rfl (hk.l0 (by omega)) (xnh rfl) (by omega) (xst (Nat.le_of_ble_eq_true rfl)) (c_X1_keep (I := I) hk (by omega) (by rw [hI, kKp_24]; exact hnm k) (by omega) ?_)
        change X _ _ _ _ _ _ _ _ _ _
        refine x_iinc 237 [(1, .ref (T.ad 0 0)), (1, .int w), xo, (1, .ref (T.ad 23 0)), (1, .int (nI N)), (1, .int (nI (k + 1))), (1, .ref (T.ad 6 k))] dX1_finishDisk_234 rfl (by decide) rfl (xi_1 k) rfl ?_
        refine x_goto 206 dX1_finishDisk_237 (by decide) ?_
        refine x_fgt [(1, .ref (T.ad 0 0)), (1, .int w), xo, (1, .ref (T.ad 23 0)), (1, .int (nI N)), (1, .int (nI (k + 1))), xo] ⟨Or.inr rfl, Or.inr rfl, Or.inl rfl, Or.inr rfl, Or.inr rfl, Or.inr rfl, Or.inl rfl, trivial⟩ ?_
        exact ih _ (by rw [← hm]; omega) (k + 1) ((kKeep I k w)) rfl (by omega) (by show _ = kKp w (itA (kKp w) I0 k) k; rw [← hI]; unfold kKp; rw [if_neg (by simpa using c224)])
set_option maxHeartbeats 4000000 in
set_option maxRecDepth 100000 in
theorem s194_fd {G : xG} {n a b : Nat} {Q : Outcome → xS → Prop} {J : xJ} {R Z : xR} {T : xT} {I : xI} {N B : Nat} (hk : KS Z T N B) {w : Int32} (hnm : ∀ j, kLn (I 6 j 24) 64) (hq : Q (.returned (some (.int 0))) (itA (kKp w) I N, J, R, Z, T)) (hn : 3 ≤ n) : X G mX1_finishDisk n a b Q (I, J, R, Z, T) 194 [(1, .ref (T.ad 0 0)), (1, .int w), xo, xo, xo, xo, xo] [] := by
  have hnb := hk.nb
  refine x_aload_n 195 dX1_finishDisk_194 rfl rfl ?_
  refine x_getz 198 dX1_finishDisk_195 rfl fl_X1_115 (hk.l0 (by omega)) (hk.z0_5 (by omega)) ?_
  refine x_astore_n 199 [(1, .ref (T.ad 0 0)), (1, .int w), xo, (1, .ref (T.ad 23 0)), xo, xo, xo] dX1_finishDisk_198 rfl (by decide) rfl ?_
  refine x_aload_n 200 dX1_finishDisk_199 rfl rfl ?_
  refine x_alen 201 dX1_finishDisk_200 rfl ar_23 (hk.l23 (by omega)) ?_
  refine x_vi (congrArg nI (hk.n23 (by omega))) ?_
  refine x_istore 203 [(1, .ref (T.ad 0 0)), (1, .int w), xo, (1, .ref (T.ad 23 0)), (1, .int (nI N)), xo, xo] dX1_finishDisk_201 rfl (by decide) rfl ?_
  refine x_iconst (v := 0) 204 dX1_finishDisk_203 rfl rfl ?_
  refine x_istore 206 [(1, .ref (T.ad 0 0)), (1, .int w), xo, (1, .ref (T.ad 23 0)), (1, .int (nI N)), (1, .int 0), xo] dX1_finishDisk_204 rfl (by decide) rfl ?_
  exact l206_fd hk hnm hq 0 I (by omega) (by omega) rfl
set_option maxHeartbeats 4000000 in
set_option maxRecDepth 100000 in
theorem s163_fd {G : xG} {n a b : Nat} {Q : Outcome → xS → Prop} {J : xJ} {R Z : xR} {T : xT} {I : xI} {N B D Lg : Nat} (hk : KS Z T N B) {w : Int32} (hD : kDp I N B D Lg) {m : Nat} (hmB : m ≤ B) (hq : Q (.returned (some (.int (kFd3 N D Lg w (m, I)).1))) ((kFd3 N D Lg w (m, I)).2, J, R, Z, T)) (hn : 5 ≤ n) : X G mX1_finishDisk n a b Q (I, J, R, Z, T) 163 [(1, .ref (T.ad 0 0)), (1, .int w), (1, .int (nI m)), xo, xo, xo, xo] [] := by
  have hdn := hD.1.n
  refine x_iload_n 164 dX1_finishDisk_163 rfl rfl ?_
  refine x_aload_n 165 dX1_finishDisk_164 rfl rfl ?_
  refine x_getz 168 dX1_finishDisk_165 rfl fl_X1_92 (hk.l0 (by omega)) (hk.z0_0 (by omega)) ?_
  refine x_geti 171 dX1_finishDisk_168 rfl fl_X1_477 (hk.l5 (by omega)) ?_
  refine x_vi (w := nI Lg) hD.1.g ?_
  refine x_iconst (v := 1) 172 dX1_finishDisk_171 rfl rfl ?_
  refine x_isubn Lg 1 173 dX1_finishDisk_172 rfl rfl rfl (by omega) ?_
  refine x_icmp_le 179 176 dX1_finishDisk_173 (by decide) rfl (fun c173 => ?_) (fun c173 => ?_)
  · skip
    have c173 : m ≤ Lg - 1 := (nI_leI (a := m) (b := Lg - 1) (by omega) (by omega)).mp c173
    refine x_iload_n 180 dX1_finishDisk_179 rfl rfl ?_
    refine x_if_le 194 183 dX1_finishDisk_180 (by decide) rfl (fun c180 => ?_) (fun c180 => ?_)
    · skip
      rw [nI_le0 (by omega)] at c180
      refine x_fgt [(1, .ref (T.ad 0 0)), (1, .int w), xo, xo, xo, xo, xo] ⟨Or.inr rfl, Or.inr rfl, Or.inl rfl, Or.inl rfl, Or.inl rfl, Or.inl rfl, Or.inl rfl, trivial⟩ ?_
      unfold kFd3 at hq; rw [if_neg (by show ¬ Lg - 1 < m; omega)] at hq
      unfold kFd4 at hq; dsimp only at hq; rw [if_neg (by omega)] at hq
      exact s194_fd hk (fun j => hD.2.nm j) hq (by omega)
    · skip
      rw [nI_le0 (by omega)] at c180
      refine x_aload_n 184 dX1_finishDisk_183 rfl rfl ?_
      refine x_iload_n 185 dX1_finishDisk_184 rfl rfl ?_
      refine x_callV (as := [.int (nI m)]) (rest := []) (i := 0) (n' := n - 1) 188 dX1_finishDisk_185 rfl mv_X1_480 rfl rfl (hk.l0 (by omega)) (xnh rfl) (by omega) (xst (Nat.le_of_ble_eq_true rfl)) (c_X1_writeAll (I := I) hk (by omega) hD (by omega) ?_)
      · skip
        rcases hW : kWall D m I with ⟨_ | _, I2⟩
        · change X _ _ _ _ _ _ _ _ _ _
          unfold kFd3 at hq; rw [if_neg (by show ¬ Lg - 1 < m; omega)] at hq
          unfold kFd4 at hq; dsimp only at hq; rw [if_pos (by omega), hW] at hq
          refine x_if_ne 194 191 dX1_finishDisk_188 (by decide) rfl (fun c188 => ?_) (fun c188 => ?_)
          · skip
            exact absurd rfl c188
          · skip
            refine x_bipush (v := -15) 193 dX1_finishDisk_191 rfl rfl ?_
            refine x_ireturn dX1_finishDisk_193 rfl ?_
            exact hq
        · change X _ _ _ _ _ _ _ _ _ _
          unfold kFd3 at hq; rw [if_neg (by show ¬ Lg - 1 < m; omega)] at hq
          unfold kFd4 at hq; dsimp only at hq; rw [if_pos (by omega), hW] at hq
          refine x_if_ne 194 191 dX1_finishDisk_188 (by decide) rfl (fun c188 => ?_) (fun c188 => ?_)
          · skip
            refine x_fgt [(1, .ref (T.ad 0 0)), (1, .int w), xo, xo, xo, xo, xo] ⟨Or.inr rfl, Or.inr rfl, Or.inl rfl, Or.inl rfl, Or.inl rfl, Or.inl rfl, Or.inl rfl, trivial⟩ ?_
            have hD2 := kWall_w (n := m) hD
            rw [hW] at hD2
            exact s194_fd hk (fun j => hD2.2.nm j) hq (by omega)
          · skip
            exact absurd (show (1 : Int32) = 0 from c188) (by decide)
  · skip
    have c173 : ¬ (m ≤ Lg - 1) := fun h => c173 ((nI_leI (a := m) (b := Lg - 1) (by omega) (by omega)).mpr h)
    refine x_bipush (v := -6) 178 dX1_finishDisk_176 rfl rfl ?_
    refine x_ireturn dX1_finishDisk_178 rfl ?_
    unfold kFd3 at hq; rw [if_pos (by show Lg - 1 < m; omega)] at hq; exact hq
set_option maxHeartbeats 4000000 in
set_option maxRecDepth 100000 in
theorem l128_fd {G : xG} {n a b : Nat} {Q : Outcome → xS → Prop} {J : xJ} {Z : xR} {T : xT} {R : xR} {I0 : xI} {N B D Lg : Nat} (hk : KS Z T N B) {w : Int32} (hD : kDp I0 N B D Lg) (hx : X G mX1_finishDisk n a b Q ((kCh I0 B).2, J, R, Z, T) 163 [(1, .ref (T.ad 0 0)), (1, .int w), (1, .int (nI ((kCh I0 B).1))), xo, xo, xo, xo] []) (k s : Nat) (I : xI) (hn : 2 ≤ n) :
    (k ≤ B) → (kCh I0 k = (s, I)) → X G mX1_finishDisk n a b Q (I, J, R, Z, T) 128 [(1, .ref (T.ad 0 0)), (1, .int w), (1, .int (nI s)), (1, .int (nI k)), xo, xo, xo] [] := by
  induction hm : B - k using Nat.strongRecOn generalizing k s I with
  | _ m_ ih =>
    intro h8 hI
    have hdn := hD.1.n
    obtain ⟨hDk, hsk⟩ := kCh_w hD k h8
    rw [hI] at hDk hsk
    have hsk2 : s ≤ k := hsk
    refine x_iload_n 129 dX1_finishDisk_128 rfl rfl ?_
    refine x_aload_n 130 dX1_finishDisk_129 rfl rfl ?_
    refine x_getz 133 dX1_finishDisk_130 rfl fl_X1_92 (hk.l0 (by omega)) (hk.z0_0 (by omega)) ?_
    refine x_geti 136 dX1_finishDisk_133 rfl fl_X1_96 (hk.l5 (by omega)) ?_
    refine x_vi (w := nI B) hDk.1.b ?_
    refine x_icmp_ge 163 139 dX1_finishDisk_136 (by decide) rfl (fun c136 => ?_) (fun c136 => ?_)
    · skip
      have c136 : B ≤ k := (nI_leI (a := B) (b := k) (by omega) (by omega)).mp c136
      refine x_fgt [(1, .ref (T.ad 0 0)), (1, .int w), (1, .int (nI s)), xo, xo, xo, xo] ⟨Or.inr rfl, Or.inr rfl, Or.inr rfl, Or.inl rfl, Or.inl rfl, Or.inl rfl, Or.inl rfl, trivial⟩ ?_
      have e : k = B := by omega
      rw [e] at hI; rw [hI] at hx; exact hx
    · skip
      have c136 : ¬ (B ≤ k) := fun h => c136 ((nI_leI (a := B) (b := k) (by omega) (by omega)).mpr h)
      refine x_aload_n 140 dX1_finishDisk_139 rfl rfl ?_
      refine x_iload_n 141 dX1_finishDisk_140 rfl rfl ?_
      refine x_callV (as := [.int (nI k)]) (rest := []) (i := 0) (n' := n - 1) 144 dX1_finishDisk_141 rfl mv_X1_474 rfl rfl (hk.l0 (by omega)) (xnh rfl) (by omega) (xst (Nat.le_of_ble_eq_true rfl)) (c_X1_isOther hk (by omega) (by omega) ?_)
      change X _ _ _ _ _ _ _ _ _ _
      refine x_if_eq 157 147 dX1_finishDisk_144 (by decide) rfl (fun c144 => ?_) (fun c144 => ?_)
      · skip
        have c144 : ¬ (kOther I k) := b2i_0.mp c144
        refine x_iinc 160 [(1, .ref (T.ad 0 0)), (1, .int w), (1, .int (nI s)), (1, .int (nI (k + 1))), xo, xo, xo] dX1_finishDisk_157 rfl (by decide) rfl (xi_1 k) rfl ?_
        refine x_goto 128 dX1_finishDisk_160 (by decide) ?_
        exact ih _ (by rw [← hm]; omega) (k + 1) s I rfl (by omega) (by show cif (kOther (kCh I0 k).2 k) _ (kCh I0 k) = _; rw [hI, cif_f c144])
      · skip
        have c144 : kOther I k := b2i_n0.mp c144
        refine x_aload_n 148 dX1_finishDisk_147 rfl rfl ?_
        refine x_getz 151 dX1_finishDisk_148 rfl fl_X1_102 (hk.l0 (by omega)) (hk.z0_3 (by omega)) ?_
        refine x_iload_n 152 dX1_finishDisk_151 rfl rfl ?_
        refine x_iinc 155 [(1, .ref (T.ad 0 0)), (1, .int w), (1, .int (nI (s + 1))), (1, .int (nI k)), xo, xo, xo] dX1_finishDisk_152 rfl (by decide) rfl (xi_1 s) rfl ?_
        refine x_iload_n 156 dX1_finishDisk_155 rfl rfl ?_
        refine x_iast 157 dX1_finishDisk_156 rfl ar_21 (by decide) (by decide) (hk.l21 (by omega)) (xb (hk.n21 (by omega)) (by omega) (by omega)) ?_
        refine x_nmI fun I1 hI1 => ?_
        refine x_iinc 160 [(1, .ref (T.ad 0 0)), (1, .int w), (1, .int (nI (s + 1))), (1, .int (nI (k + 1))), xo, xo, xo] dX1_finishDisk_157 rfl (by decide) rfl (xi_1 k) rfl ?_
        refine x_goto 128 dX1_finishDisk_160 (by decide) ?_
        exact ih _ (by rw [← hm]; omega) (k + 1) (s + 1) I1 rfl (by omega) (by show cif (kOther (kCh I0 k).2 k) ((kCh I0 k).1 + 1, xu (kCh I0 k).2 21 0 (kCh I0 k).1 (nI k)) _ = _; rw [hI, cif_t c144, hI1])
set_option maxHeartbeats 4000000 in
set_option maxRecDepth 100000 in
theorem l91_fd {G : xG} {n a b : Nat} {Q : Outcome → xS → Prop} {J : xJ} {Z : xR} {T : xT} {R : xR} {I0 : xI} {N B : Nat} (hk : KS Z T N B) {w : Int32} (hw : kBw I0 B) (hnum : ∀ i, i < N → I0 6 i 0 = nI i) (hx : X G mX1_finishDisk n a b Q (itA (kDr w) I0 N, J, R, Z, T) 124 [(1, .ref (T.ad 0 0)), (1, .int w), xo, xo, xo, xo, xo] []) (k : Nat) (I : xI) (hn : 4 ≤ n) :
    (k ≤ N) → (I = itA (kDr w) I0 k) → X G mX1_finishDisk n a b Q (I, J, R, Z, T) 91 [(1, .ref (T.ad 0 0)), (1, .int w), (1, .ref (T.ad 23 0)), (1, .int (nI N)), (1, .int (nI k)), xo, xo] [] := by
  induction hm : N - k using Nat.strongRecOn generalizing k I with
  | _ m_ ih =>
    intro h8 hI
    have hnb := hk.nb
    refine x_iload 93 dX1_finishDisk_91 rfl rfl ?_
    refine x_iload_n 94 dX1_finishDisk_93 rfl rfl ?_
    refine x_icmp_ge 124 97 dX1_finishDisk_94 (by decide) rfl (fun c94 => ?_) (fun c94 => ?_)
    · skip
      have c94 : N ≤ k := (nI_leI (a := N) (b := k) (by omega) (by omega)).mp c94
      refine x_fgt [(1, .ref (T.ad 0 0)), (1, .int w), xo, xo, xo, xo, xo] ⟨Or.inr rfl, Or.inr rfl, Or.inl rfl, Or.inl rfl, Or.inl rfl, Or.inl rfl, Or.inl rfl, trivial⟩ ?_
      have e : k = N := by omega
      rw [hI, e]; exact hx
    · skip
      have c94 : ¬ (N ≤ k) := fun h => c94 ((nI_leI (a := N) (b := k) (by omega) (by omega)).mpr h)
      refine x_aload_n 98 dX1_finishDisk_97 rfl rfl ?_
      refine x_iload 100 dX1_finishDisk_98 rfl rfl ?_
      refine x_aldz 101 dX1_finishDisk_100 rfl ar_23 rfl (hk.l23 (by omega)) (xb (hk.n23 (by omega)) (by omega) (by omega)) (hk.z23 (by omega)) ?_
      refine x_astore 103 [(1, .ref (T.ad 0 0)), (1, .int w), (1, .ref (T.ad 23 0)), (1, .int (nI N)), (1, .int (nI k)), (1, .ref (T.ad 6 k)), xo] dX1_finishDisk_101 rfl (by decide) rfl ?_
      refine x_aload 105 dX1_finishDisk_103 rfl rfl ?_
      refine x_geti 108 dX1_finishDisk_105 rfl fl_X1_439 (hk.l6 (by omega)) ?_
      refine x_if_eq 118 111 dX1_finishDisk_108 (by decide) rfl (fun c108 => ?_) (fun c108 => ?_)
      · skip
        refine x_iinc 121 [(1, .ref (T.ad 0 0)), (1, .int w), (1, .ref (T.ad 23 0)), (1, .int (nI N)), (1, .int (nI (k + 1))), (1, .ref (T.ad 6 k)), xo] dX1_finishDisk_118 rfl (by decide) rfl (xi_1 k) rfl ?_
        refine x_goto 91 dX1_finishDisk_121 (by decide) ?_
        refine x_fgt [(1, .ref (T.ad 0 0)), (1, .int w), (1, .ref (T.ad 23 0)), (1, .int (nI N)), (1, .int (nI (k + 1))), xo, xo] ⟨Or.inr rfl, Or.inr rfl, Or.inr rfl, Or.inr rfl, Or.inr rfl, Or.inl rfl, Or.inl rfl, trivial⟩ ?_
        exact ih _ (by rw [← hm]; omega) (k + 1) I rfl (by omega) (by show _ = kDr w (itA (kDr w) I0 k) k; rw [← hI]; unfold kDr; rw [if_pos (by simpa using c108)])
      · skip
        refine x_aload_n 112 dX1_finishDisk_111 rfl rfl ?_
        refine x_aload 114 dX1_finishDisk_112 rfl rfl ?_
        refine x_iload_n 115 dX1_finishDisk_114 rfl rfl ?_
        refine x_callV (as := [.ref (T.ad 6 k), .int w]) (rest := []) (i := 0) (n' := n - 1) 118 dX1_finishDisk_115 rfl mv_X1_470 rfl rfl (hk.l0 (by omega)) (xnh rfl) (by omega) (xst (Nat.le_of_ble_eq_true rfl)) (c_X1_draw (I := I) hk (by omega) (by rw [hI, kDr_c (by decide)]; exact hnum k (by omega)) (by rw [hI]; exact hw.c20 (fun c p q h => kDr_c h)) (by omega) ?_)
        change X _ _ _ _ _ _ _ _ _ _
        refine x_iinc 121 [(1, .ref (T.ad 0 0)), (1, .int w), (1, .ref (T.ad 23 0)), (1, .int (nI N)), (1, .int (nI (k + 1))), (1, .ref (T.ad 6 k)), xo] dX1_finishDisk_118 rfl (by decide) rfl (xi_1 k) rfl ?_
        refine x_goto 91 dX1_finishDisk_121 (by decide) ?_
        refine x_fgt [(1, .ref (T.ad 0 0)), (1, .int w), (1, .ref (T.ad 23 0)), (1, .int (nI N)), (1, .int (nI (k + 1))), xo, xo] ⟨Or.inr rfl, Or.inr rfl, Or.inr rfl, Or.inr rfl, Or.inr rfl, Or.inl rfl, Or.inl rfl, trivial⟩ ?_
        exact ih _ (by rw [← hm]; omega) (k + 1) ((kDraw k w I)) rfl (by omega) (by show _ = kDr w (itA (kDr w) I0 k) k; rw [← hI]; unfold kDr; rw [if_neg (by simpa using c108)])
theorem kPls_stop {B D Lg : Nat} {w : Int32} {I0 I' : xI} {k m : Nat} (h : kPls B D Lg w I0 (k + 1) = (false, I')) (hm : k + 1 ≤ m) : kPls B D Lg w I0 m = (false, I') := by
  obtain ⟨j, rfl⟩ : ∃ j, m = k + 1 + j := ⟨m - (k + 1), by omega⟩
  clear hm
  induction j with
  | zero => exact h
  | succ j ih =>
    show (match kPls B D Lg w I0 (k + 1 + j) with | (false, I') => (false, I') | (true, I') => kPlan B D Lg (k + 1 + j) w I' : Bool × xI) = _
    rw [ih]
theorem kPls_s {B D Lg : Nat} {w : Int32} {I0 I' : xI} {k : Nat} (h : kPls B D Lg w I0 k = (true, I')) : kPls B D Lg w I0 (k + 1) = kPlan B D Lg k w I' := by
  show (match kPls B D Lg w I0 k with | (false, I') => (false, I') | (true, I') => kPlan B D Lg k w I' : Bool × xI) = _
  rw [h]
set_option maxHeartbeats 4000000 in
set_option maxRecDepth 100000 in
theorem l49_fd {G : xG} {n a b : Nat} {Q : Outcome → xS → Prop} {J : xJ} {Z : xR} {T : xT} {R : xR} {I0 : xI} {N B D Lg : Nat} (hk : KS Z T N B) {w : Int32} (hD : kDp I0 N B D Lg) (hl : ∀ i, kLn (I0 6 i 3) 8192) (hx : ∀ I' : xI, kPls B D Lg w I0 N = (true, I') → X G mX1_finishDisk n a b Q (I', J, R, Z, T) 80 [(1, .ref (T.ad 0 0)), (1, .int w), xo, xo, xo, xo, xo] []) (hq : ∀ I' : xI, kPls B D Lg w I0 N = (false, I') → Q (.returned (some (.int (-6)))) (I', J, R, Z, T)) (k : Nat) (I : xI) (hn : 5 ≤ n) :
    (k ≤ N) → (kPls B D Lg w I0 k = (true, I)) → X G mX1_finishDisk n a b Q (I, J, R, Z, T) 49 [(1, .ref (T.ad 0 0)), (1, .int w), (1, .ref (T.ad 23 0)), (1, .int (nI N)), (1, .int (nI k)), xo, xo] [] := by
  induction hm : N - k using Nat.strongRecOn generalizing k I with
  | _ m_ ih =>
    intro h8 hI
    have hnb := hk.nb
    have hDk := kPls_w (w := w) hD hl k
    rw [hI] at hDk
    have hPk : kPw I N B D Lg k := ⟨hDk.1.1, hDk.1.2, by rw [show I 6 k 3 = I0 6 k 3 from hDk.2 k 3 (by omega)]; exact hl k⟩
    refine x_iload 51 dX1_finishDisk_49 rfl rfl ?_
    refine x_iload_n 52 dX1_finishDisk_51 rfl rfl ?_
    refine x_icmp_ge 80 55 dX1_finishDisk_52 (by decide) rfl (fun c52 => ?_) (fun c52 => ?_)
    · skip
      have c52 : N ≤ k := (nI_leI (a := N) (b := k) (by omega) (by omega)).mp c52
      refine x_fgt [(1, .ref (T.ad 0 0)), (1, .int w), xo, xo, xo, xo, xo] ⟨Or.inr rfl, Or.inr rfl, Or.inl rfl, Or.inl rfl, Or.inl rfl, Or.inl rfl, Or.inl rfl, trivial⟩ ?_
      have e : k = N := by omega
      rw [e] at hI; exact hx I hI
    · skip
      have c52 : ¬ (N ≤ k) := fun h => c52 ((nI_leI (a := N) (b := k) (by omega) (by omega)).mpr h)
      refine x_aload_n 56 dX1_finishDisk_55 rfl rfl ?_
      refine x_iload 58 dX1_finishDisk_56 rfl rfl ?_
      refine x_aldz 59 dX1_finishDisk_58 rfl ar_23 rfl (hk.l23 (by omega)) (xb (hk.n23 (by omega)) (by omega) (by omega)) (hk.z23 (by omega)) ?_
      refine x_astore 61 [(1, .ref (T.ad 0 0)), (1, .int w), (1, .ref (T.ad 23 0)), (1, .int (nI N)), (1, .int (nI k)), (1, .ref (T.ad 6 k)), xo] dX1_finishDisk_59 rfl (by decide) rfl ?_
      refine x_aload_n 62 dX1_finishDisk_61 rfl rfl ?_
      refine x_aload 64 dX1_finishDisk_62 rfl rfl ?_
      refine x_iload_n 65 dX1_finishDisk_64 rfl rfl ?_
      refine x_callV (as := [.ref (T.ad 6 k), .int w]) (rest := []) (i := 0) (n' := n - 1) 68 dX1_finishDisk_65 rfl mv_X1_466 rfl rfl (hk.l0 (by omega)) (xnh rfl) (by omega) (xst (Nat.le_of_ble_eq_true rfl)) (c_X1_plan (I := I) (D := D) (Lg := Lg) hk (by omega) hPk (by omega) ?_)
      · skip
        rcases hW : kPlan B D Lg k w I with ⟨_ | _, I2⟩
        · change X _ _ _ _ _ _ _ _ _ _
          refine x_if_ne 74 71 dX1_finishDisk_68 (by decide) rfl (fun c68 => ?_) (fun c68 => ?_)
          · skip
            exact absurd rfl c68
          · skip
            refine x_bipush (v := -6) 73 dX1_finishDisk_71 rfl rfl ?_
            refine x_ireturn dX1_finishDisk_73 rfl ?_
            exact hq I2 (kPls_stop ((kPls_s hI).trans hW) (by omega))
        · change X _ _ _ _ _ _ _ _ _ _
          refine x_if_ne 74 71 dX1_finishDisk_68 (by decide) rfl (fun c68 => ?_) (fun c68 => ?_)
          · skip
            refine x_iinc 77 [(1, .ref (T.ad 0 0)), (1, .int w), (1, .ref (T.ad 23 0)), (1, .int (nI N)), (1, .int (nI (k + 1))), (1, .ref (T.ad 6 k)), xo] dX1_finishDisk_74 rfl (by decide) rfl (xi_1 k) rfl ?_
            refine x_goto 49 dX1_finishDisk_77 (by decide) ?_
            refine x_fgt [(1, .ref (T.ad 0 0)), (1, .int w), (1, .ref (T.ad 23 0)), (1, .int (nI N)), (1, .int (nI (k + 1))), xo, xo] ⟨Or.inr rfl, Or.inr rfl, Or.inr rfl, Or.inr rfl, Or.inr rfl, Or.inl rfl, Or.inl rfl, trivial⟩ ?_
            exact ih _ (by rw [← hm]; omega) (k + 1) I2 rfl (by omega) ((kPls_s hI).trans hW)
          · skip
            exact absurd (show (1 : Int32) = 0 from c68) (by decide)
set_option maxHeartbeats 4000000 in
set_option maxRecDepth 100000 in
theorem s80_fd {G : xG} {n a b : Nat} {Q : Outcome → xS → Prop} {J : xJ} {R Z : xR} {T : xT} {I : xI} {N B D Lg : Nat} (hk : KS Z T N B) {w : Int32} (hD : kDp I N B D Lg) (hnum : ∀ i, i < N → I 6 i 0 = nI i) (hq : Q (.returned (some (.int (kFd2 N B D Lg w I).1))) ((kFd2 N B D Lg w I).2, J, R, Z, T)) (hn : 5 ≤ n) : X G mX1_finishDisk n a b Q (I, J, R, Z, T) 80 [(1, .ref (T.ad 0 0)), (1, .int w), xo, xo, xo, xo, xo] [] := by
  have hnb := hk.nb
  refine x_aload_n 81 dX1_finishDisk_80 rfl rfl ?_
  refine x_getz 84 dX1_finishDisk_81 rfl fl_X1_115 (hk.l0 (by omega)) (hk.z0_5 (by omega)) ?_
  refine x_astore_n 85 [(1, .ref (T.ad 0 0)), (1, .int w), (1, .ref (T.ad 23 0)), xo, xo, xo, xo] dX1_finishDisk_84 rfl (by decide) rfl ?_
  refine x_aload_n 86 dX1_finishDisk_85 rfl rfl ?_
  refine x_alen 87 dX1_finishDisk_86 rfl ar_23 (hk.l23 (by omega)) ?_
  refine x_vi (congrArg nI (hk.n23 (by omega))) ?_
  refine x_istore_n 88 [(1, .ref (T.ad 0 0)), (1, .int w), (1, .ref (T.ad 23 0)), (1, .int (nI N)), xo, xo, xo] dX1_finishDisk_87 rfl (by decide) rfl ?_
  refine x_iconst (v := 0) 89 dX1_finishDisk_88 rfl rfl ?_
  refine x_istore 91 [(1, .ref (T.ad 0 0)), (1, .int w), (1, .ref (T.ad 23 0)), (1, .int (nI N)), (1, .int 0), xo, xo] dX1_finishDisk_89 rfl (by decide) rfl ?_
  refine l91_fd hk hD.2 hnum ?_ 0 I (by omega) (by omega) rfl
  have hD2 : kDp (itA (kDr w) I N) N B D Lg := hD.c20 (fun c p q h => kDr_c h)
  refine x_iconst (v := 0) 125 dX1_finishDisk_124 rfl rfl ?_
  refine x_istore_n 126 [(1, .ref (T.ad 0 0)), (1, .int w), (1, .int 0), xo, xo, xo, xo] dX1_finishDisk_125 rfl (by decide) rfl ?_
  refine x_iconst (v := 0) 127 dX1_finishDisk_126 rfl rfl ?_
  refine x_istore_n 128 [(1, .ref (T.ad 0 0)), (1, .int w), (1, .int 0), (1, .int 0), xo, xo, xo] dX1_finishDisk_127 rfl (by decide) rfl ?_
  refine l128_fd hk hD2 ?_ 0 0 _ (by omega) (by omega) rfl
  have hc := kCh_w hD2 B (Nat.le_refl _)
  exact s163_fd hk hc.1 hc.2 hq (by omega)
set_option maxHeartbeats 4000000 in
set_option maxRecDepth 100000 in
theorem s13_fd {G : xG} {n a b : Nat} {Q : Outcome → xS → Prop} {J : xJ} {R Z : xR} {T : xT} {I : xI} {N B D Lg : Nat} (hk : KS Z T N B) {w : Int32} (hD : kDp I N B D Lg) (hnum : ∀ i, i < N → I 6 i 0 = nI i) (hl : ∀ i, kLn (I 6 i 3) 8192) (hq : Q (.returned (some (.int (kFinD N B D Lg w I).1))) ((kFinD N B D Lg w I).2, J, R, Z, T)) (hn : 5 ≤ n) : X G mX1_finishDisk n a b Q (I, J, R, Z, T) 13 [(1, .ref (T.ad 0 0)), (1, .int w), xo, xo, xo, xo, xo] [] := by
  have hnb := hk.nb
  refine x_aload_n 14 dX1_finishDisk_13 rfl rfl ?_
  refine x_getz 17 dX1_finishDisk_14 rfl fl_X1_92 (hk.l0 (by omega)) (hk.z0_0 (by omega)) ?_
  refine x_getz 20 dX1_finishDisk_17 rfl fl_X1_127 (hk.l5 (by omega)) (hk.z5_3 (by omega)) ?_
  refine x_iconst (v := 0) 21 dX1_finishDisk_20 rfl rfl ?_
  refine x_aload_n 22 dX1_finishDisk_21 rfl rfl ?_
  refine x_getz 25 dX1_finishDisk_22 rfl fl_X1_99 (hk.l0 (by omega)) (hk.z0_2 (by omega)) ?_
  refine x_iconst (v := 0) 26 dX1_finishDisk_25 rfl rfl ?_
  refine x_aload_n 27 dX1_finishDisk_26 rfl rfl ?_
  refine x_getz 30 dX1_finishDisk_27 rfl fl_X1_99 (hk.l0 (by omega)) (hk.z0_2 (by omega)) ?_
  refine x_alen 31 dX1_finishDisk_30 rfl ar_20 (hk.l20 (by omega)) ?_
  refine x_vi (congrArg nI (hk.n20 (by omega))) ?_
  refine x_copyi (sp := 0) (dp := 0) (m := (128 * B)) 34 dX1_finishDisk_31 rfl cp_X1_148 ar_35 ar_20 (Or.inr ⟨rfl, by decide, by decide⟩) ⟨by decide, fun h => by cases h⟩ (hk.l35 (by omega)) (hk.l20 (by omega)) (by decide) (by omega) (xst (Nat.le_of_ble_eq_true rfl)) ⟨by omega, by omega, by omega⟩ (by rw [(hk.n35 (by omega))]; omega) (by rw [(hk.n20 (by omega))]; omega) ?_
  refine x_nmI fun I1 hI1 => ?_
  have hD0 : kDp (kFd0 B I) N B D Lg := hD.ur (fun _ => rfl) (by decide) (by decide)
  have eI1 : I1 = kFd0 B I := hI1
  refine x_aload_n 35 dX1_finishDisk_34 rfl rfl ?_
  refine x_callV (as := []) (rest := []) (i := 0) (n' := n - 1) 38 dX1_finishDisk_35 rfl mv_X1_463 rfl rfl (hk.l0 (by omega)) (xnh rfl) (by omega) (xst (Nat.le_of_ble_eq_true rfl)) (c_X1_markTaken hk (show KD I1 N B D Lg by rw [eI1]; exact hD0.1) (show kBw I1 B by rw [eI1]; exact hD0.2) (by omega) ?_)
  change X _ _ _ _ _ _ _ _ _ _
  refine x_aload_n 39 dX1_finishDisk_38 rfl rfl ?_
  refine x_getz 42 dX1_finishDisk_39 rfl fl_X1_115 (hk.l0 (by omega)) (hk.z0_5 (by omega)) ?_
  refine x_astore_n 43 [(1, .ref (T.ad 0 0)), (1, .int w), (1, .ref (T.ad 23 0)), xo, xo, xo, xo] dX1_finishDisk_42 rfl (by decide) rfl ?_
  refine x_aload_n 44 dX1_finishDisk_43 rfl rfl ?_
  refine x_alen 45 dX1_finishDisk_44 rfl ar_23 (hk.l23 (by omega)) ?_
  refine x_vi (congrArg nI (hk.n23 (by omega))) ?_
  refine x_istore_n 46 [(1, .ref (T.ad 0 0)), (1, .int w), (1, .ref (T.ad 23 0)), (1, .int (nI N)), xo, xo, xo] dX1_finishDisk_45 rfl (by decide) rfl ?_
  refine x_iconst (v := 0) 47 dX1_finishDisk_46 rfl rfl ?_
  refine x_istore 49 [(1, .ref (T.ad 0 0)), (1, .int w), (1, .ref (T.ad 23 0)), (1, .int (nI N)), (1, .int 0), xo, xo] dX1_finishDisk_47 rfl (by decide) rfl ?_
  have e0 : (kMkT N B D Lg I1) = kMkT N B D Lg (kFd0 B I) := by rw [hI1]; rfl
  rw [e0]
  unfold kFinD at hq
  have hD1 : kDp (kMkT N B D Lg (kFd0 B I)) N B D Lg := ⟨hD0.1.of (fun k hk => kMkT_c (by decide)), hD0.2.c22 (fun c p q h => kMkT_c h)⟩
  have hc1 : ∀ j k, kMkT N B D Lg (kFd0 B I) 6 j k = I 6 j k := fun j k => by rw [kMkT_c (by decide)]; unfold kFd0; exact xur_c (by decide)
  have hl1 : ∀ i, kLn (kMkT N B D Lg (kFd0 B I) 6 i 3) 8192 := fun i => by rw [hc1]; exact hl i
  refine l49_fd hk hD1 hl1 ?_ ?_ 0 _ (by omega) (by omega) rfl
  · intro I2 hK2
    rw [hK2] at hq
    have h2 := kPls_w (w := w) hD1 hl1 N
    rw [hK2] at h2
    exact s80_fd hk h2.1 (fun i hi => by rw [show I2 6 i 0 = _ from h2.2 i 0 (by omega), hc1]; exact hnum i hi) hq (by omega)
  · intro I2 hK2
    rw [hK2] at hq; exact hq
