set_option maxRecDepth 100000
/-! what is finished comes on the disk -/
/-- what is bounded there -/
def wfD (B c k : Nat) : Option Nat :=
  if c = 6 then (if k = 15 ∨ k = 22 then some 8192 else if k = 17 ∨ k = 24 then some 64 else if k = 18 then some (B - 1) else none)
  else if c = 38 ∨ c = 39 ∨ c = 21 then some (B - 1) else if c = 5 ∧ k = 6 then some 127 else none
def kBw (I : xI) (B : Nat) : Prop := (∀ c i k m, wfD B c k = some m → kLn (I c i k) m) ∧ ∀ i, I 6 i 25 = -1 ∨ kLn (I 6 i 25) (B - 1)
theorem kBw.kl {I : xI} {B : Nat} (h : kBw I B) (i : Nat) : kLn (I 6 i 15) 8192 := h.1 6 i 15 _ rfl
theorem kBw.nl {I : xI} {B : Nat} (h : kBw I B) (i : Nat) : kLn (I 6 i 22) 8192 := h.1 6 i 22 _ rfl
theorem kBw.mn {I : xI} {B : Nat} (h : kBw I B) (i : Nat) : kLn (I 6 i 17) 64 := h.1 6 i 17 _ rfl
theorem kBw.nm {I : xI} {B : Nat} (h : kBw I B) (i : Nat) : kLn (I 6 i 24) 64 := h.1 6 i 24 _ rfl
theorem kBw.ind {I : xI} {B : Nat} (h : kBw I B) (i : Nat) : kLn (I 6 i 18) (B - 1) := h.1 6 i 18 _ rfl
theorem kBw.blk {I : xI} {B : Nat} (h : kBw I B) (i k : Nat) : kLn (I 38 i k) (B - 1) := h.1 38 i k _ rfl
theorem kBw.nbl {I : xI} {B : Nat} (h : kBw I B) (i k : Nat) : kLn (I 39 i k) (B - 1) := h.1 39 i k _ rfl
theorem kBw.chg {I : xI} {B : Nat} (h : kBw I B) (i k : Nat) : kLn (I 21 i k) (B - 1) := h.1 21 i k _ rfl
theorem kBw.torn {I : xI} {B : Nat} (h : kBw I B) (i : Nat) : kLn (I 5 i 6) 127 := h.1 5 i 6 _ rfl
theorem kBw.u {I : xI} {B c i k : Nat} {v : Int32} (h : kBw I B) (hc : wfD B c k = none) (h25 : ¬ (c = 6 ∧ k = 25)) : kBw (xu I c i k v) B :=
  ⟨fun c' i' k' m e => by
    by_cases q : c' = c ∧ i' = i ∧ k' = k
    · obtain ⟨rfl, rfl, rfl⟩ := q; rw [hc] at e; cases e
    · rw [xu_n q]; exact h.1 _ _ _ _ e,
   fun j => by
    rw [xu_n (fun q => h25 ⟨q.1.symm, q.2.2.symm⟩)]; exact h.2 j⟩
theorem kBw.ul {I : xI} {B c i k m : Nat} {v : Int32} (h : kBw I B) (hc : wfD B c k = some m) (hv : kLn v m) (h25 : ¬ (c = 6 ∧ k = 25)) : kBw (xu I c i k v) B :=
  ⟨fun c' i' k' m' e => by
    by_cases q : c' = c ∧ i' = i ∧ k' = k
    · obtain ⟨rfl, rfl, rfl⟩ := q; rw [hc] at e; cases e; rw [xu_eq]; exact hv
    · rw [xu_n q]; exact h.1 _ _ _ _ e,
   fun j => by
    rw [xu_n (fun q => h25 ⟨q.1.symm, q.2.2.symm⟩)]; exact h.2 j⟩
theorem kBw.ui {I : xI} {B i : Nat} {v : Int32} (h : kBw I B) (hv : v = -1 ∨ kLn v (B - 1)) : kBw (xu I 6 i 25 v) B :=
  ⟨fun c' i' k' m' e => by
    by_cases q : c' = 6 ∧ i' = i ∧ k' = 25
    · obtain ⟨rfl, rfl, rfl⟩ := q; cases e
    · rw [xu_n q]; exact h.1 _ _ _ _ e,
   fun j => by
    by_cases q : j = i
    · subst q; rw [xu_eq]; exact hv
    · rw [xu_n (fun p => q p.2.1)]; exact h.2 j⟩
theorem kBw.ur {I : xI} {B c i : Nat} {v : Nat → Int32} (h : kBw I B) (hc : ∀ k, wfD B c k = none) (h6 : ¬ c = 6) : kBw (xur I c i v) B :=
  ⟨fun c' i' k' m e => by
    by_cases q : c' = c ∧ i' = i
    · obtain ⟨rfl, rfl⟩ := q; rw [hc] at e; cases e
    · rw [xur_n q]; exact h.1 _ _ _ _ e,
   fun j => by
    rw [xur_c (fun q => h6 q.symm)]; exact h.2 j⟩
theorem kBw.it {f : xI → Nat → xI} {B : Nat} (h : ∀ A k, kBw A B → kBw (f A k) B) {A : xI} (hA : kBw A B) : ∀ n, kBw (itA f A n) B
  | 0 => hA
  | n + 1 => h _ _ (kBw.it h hA n)
theorem kBw.k {A t : xI} {B : Nat} (h : kBw A B) : kBw (kI A t) B :=
  ⟨fun c i k m e => by
    by_cases h2 : c = 2
    · subst h2; cases e
    · by_cases h31 : c = 31
      · subst h31; cases e
      · rw [kI_of h2 h31]; exact h.1 _ _ _ _ e,
   fun i => h.2 i⟩
theorem kBw.cif {A A' : xI} {B : Nat} {p : Prop} (h : kBw A B) (g : kBw A' B) : kBw (cif p A A') B := by
  by_cases e : p
  · rw [cif_t e]; exact h
  · rw [cif_f e]; exact g
theorem kBw.ite {A A' : xI} {B : Nat} {p : Prop} [Decidable p] (h : kBw A B) (g : kBw A' B) : kBw (if p then A else A') B := by split <;> assumption
theorem KD.u {I : xI} {N B D Lg c i k : Nat} {v : Int32} (h : KD I N B D Lg) (hc : ¬ (c = 5 ∧ k < 3)) : KD (xu I c i k v) N B D Lg :=
  h.of fun q hq => xu_n (fun e => hc ⟨e.1.symm, by omega⟩)
theorem KD.ur {I : xI} {N B D Lg c i : Nat} {v : Nat → Int32} (h : KD I N B D Lg) (hc : ¬ c = 5) : KD (xur I c i v) N B D Lg :=
  h.of fun q hq => xur_c (fun e => hc e.symm)
theorem KD.it {f : xI → Nat → xI} {N B D Lg : Nat} (h : ∀ A k, KD A N B D Lg → KD (f A k) N B D Lg) {A : xI} (hA : KD A N B D Lg) : ∀ n, KD (itA f A n) N B D Lg
  | 0 => hA
  | n + 1 => h _ _ (KD.it h hA n)
theorem KD.ite {A A' : xI} {N B D Lg : Nat} {p : Prop} [Decidable p] (h : KD A N B D Lg) (g : KD A' N B D Lg) : KD (if p then A else A') N B D Lg := by split <;> assumption
theorem KD.cif {A A' : xI} {N B D Lg : Nat} {p : Prop} (h : KD A N B D Lg) (g : KD A' N B D Lg) : KD (cif p A A') N B D Lg := by
  by_cases e : p
  · rw [cif_t e]; exact h
  · rw [cif_f e]; exact g
theorem KD.k {A t : xI} {N B D Lg : Nat} (h : KD A N B D Lg) : KD (kI A t) N B D Lg := h
/-- one write of a block: the counters -/
def kDW0 (I : xI) : xI := xu (xu I 5 0 4 (I 5 0 4 + 1)) 5 0 5 (I 5 0 5 - (if 0 < I 5 0 5 then 1 else 0))
/-- one write of the bytes f from t on to block b -/
def kDW (I : xI) (b : Nat) (f : Nat → Int32) (t : Nat) : xI :=
  if I 5 0 5 = 1 then xu (xu (xur (kDW0 I) 35 0 (va_cpy f (I 35 0) t (128 * b) (iN (I 5 0 6)))) 35 0 (128 * b) (-1)) 5 0 7 1
  else xur (kDW0 I) 35 0 (va_cpy f (I 35 0) t (128 * b) 128)
theorem KD.dw {I : xI} {N B D Lg b t : Nat} {f : Nat → Int32} (h : KD I N B D Lg) : KD (kDW I b f t) N B D Lg := by
  unfold kDW kDW0; exact (((((h.u (by omega)).u (by omega)).ur (by decide)).u (by omega)).u (by omega)).ite (((h.u (by omega)).u (by omega)).ur (by decide))
theorem kBw.dw {I : xI} {B b t : Nat} {f : Nat → Int32} (h : kBw I B) : kBw (kDW I b f t) B := by
  unfold kDW kDW0; exact (((((h.u rfl (by omega)).u rfl (by omega)).ur (fun _ => rfl) (by decide)).u rfl (by omega)).u rfl (by omega)).ite (((h.u rfl (by omega)).u rfl (by omega)).ur (fun _ => rfl) (by decide))
theorem kDW_c {I : xI} {b t c i k : Nat} {f : Nat → Int32} (h5 : c ≠ 5) (h35 : c ≠ 35) : kDW I b f t c i k = I c i k := by
  unfold kDW kDW0
  split
  · rw [xu_c h5, xu_c h35, xur_c h35, xu_c h5, xu_c h5]
  · rw [xur_c h35, xu_c h5, xu_c h5]
theorem dX6_write_0 : decode cX6_write 0 = .ok (.aload_n 0, 1) := by decide +kernel
theorem dX6_write_1 : decode cX6_write 1 = .ok (.dup, 1) := by decide +kernel
theorem dX6_write_2 : decode cX6_write 2 = .ok (.getfield 35, 3) := by decide +kernel
theorem dX6_write_5 : decode cX6_write 5 = .ok (.iconst 1, 1) := by decide +kernel
theorem dX6_write_6 : decode cX6_write 6 = .ok (.iadd, 1) := by decide +kernel
theorem dX6_write_7 : decode cX6_write 7 = .ok (.putfield 35, 3) := by decide +kernel
theorem dX6_write_10 : decode cX6_write 10 = .ok (.aload_n 0, 1) := by decide +kernel
theorem dX6_write_11 : decode cX6_write 11 = .ok (.getfield 38, 3) := by decide +kernel
theorem dX6_write_14 : decode cX6_write 14 = .ok (.iconst 1, 1) := by decide +kernel
theorem dX6_write_15 : decode cX6_write 15 = .ok (.if_icmp .ne 7, 3) := by decide +kernel
theorem dX6_write_18 : decode cX6_write 18 = .ok (.iconst 1, 1) := by decide +kernel
theorem dX6_write_19 : decode cX6_write 19 = .ok (.goto 4, 3) := by decide +kernel
theorem dX6_write_22 : decode cX6_write 22 = .ok (.iconst 0, 1) := by decide +kernel
theorem dX6_write_23 : decode cX6_write 23 = .ok (.istore 4, 2) := by decide +kernel
theorem dX6_write_25 : decode cX6_write 25 = .ok (.aload_n 0, 1) := by decide +kernel
theorem dX6_write_26 : decode cX6_write 26 = .ok (.dup, 1) := by decide +kernel
theorem dX6_write_27 : decode cX6_write 27 = .ok (.getfield 38, 3) := by decide +kernel
theorem dX6_write_30 : decode cX6_write 30 = .ok (.aload_n 0, 1) := by decide +kernel
theorem dX6_write_31 : decode cX6_write 31 = .ok (.getfield 38, 3) := by decide +kernel
theorem dX6_write_34 : decode cX6_write 34 = .ok (.ifCond .le 7, 3) := by decide +kernel
theorem dX6_write_37 : decode cX6_write 37 = .ok (.iconst 1, 1) := by decide +kernel
theorem dX6_write_38 : decode cX6_write 38 = .ok (.goto 4, 3) := by decide +kernel
theorem dX6_write_41 : decode cX6_write 41 = .ok (.iconst 0, 1) := by decide +kernel
theorem dX6_write_42 : decode cX6_write 42 = .ok (.isub, 1) := by decide +kernel
theorem dX6_write_43 : decode cX6_write 43 = .ok (.putfield 38, 3) := by decide +kernel
theorem dX6_write_46 : decode cX6_write 46 = .ok (.aload_n 2, 1) := by decide +kernel
theorem dX6_write_47 : decode cX6_write 47 = .ok (.iload_n 3, 1) := by decide +kernel
theorem dX6_write_48 : decode cX6_write 48 = .ok (.aload_n 0, 1) := by decide +kernel
theorem dX6_write_49 : decode cX6_write 49 = .ok (.getfield 27, 3) := by decide +kernel
theorem dX6_write_52 : decode cX6_write 52 = .ok (.sipush 128, 3) := by decide +kernel
theorem dX6_write_55 : decode cX6_write 55 = .ok (.iload_n 1, 1) := by decide +kernel
theorem dX6_write_56 : decode cX6_write 56 = .ok (.imul, 1) := by decide +kernel
theorem dX6_write_57 : decode cX6_write 57 = .ok (.iload 4, 2) := by decide +kernel
theorem dX6_write_59 : decode cX6_write 59 = .ok (.ifCond .eq 10, 3) := by decide +kernel
theorem dX6_write_62 : decode cX6_write 62 = .ok (.aload_n 0, 1) := by decide +kernel
theorem dX6_write_63 : decode cX6_write 63 = .ok (.getfield 41, 3) := by decide +kernel
theorem dX6_write_66 : decode cX6_write 66 = .ok (.goto 6, 3) := by decide +kernel
theorem dX6_write_69 : decode cX6_write 69 = .ok (.sipush 128, 3) := by decide +kernel
theorem dX6_write_72 : decode cX6_write 72 = .ok (.invokestatic 44, 3) := by decide +kernel
theorem dX6_write_75 : decode cX6_write 75 = .ok (.iload 4, 2) := by decide +kernel
theorem dX6_write_77 : decode cX6_write 77 = .ok (.ifCond .ne 5, 3) := by decide +kernel
theorem dX6_write_80 : decode cX6_write 80 = .ok (.iconst 1, 1) := by decide +kernel
theorem dX6_write_81 : decode cX6_write 81 = .ok (.ireturn, 1) := by decide +kernel
theorem dX6_write_82 : decode cX6_write 82 = .ok (.aload_n 0, 1) := by decide +kernel
theorem dX6_write_83 : decode cX6_write 83 = .ok (.getfield 27, 3) := by decide +kernel
theorem dX6_write_86 : decode cX6_write 86 = .ok (.sipush 128, 3) := by decide +kernel
theorem dX6_write_89 : decode cX6_write 89 = .ok (.iload_n 1, 1) := by decide +kernel
theorem dX6_write_90 : decode cX6_write 90 = .ok (.imul, 1) := by decide +kernel
theorem dX6_write_91 : decode cX6_write 91 = .ok (.iconst (-1), 1) := by decide +kernel
theorem dX6_write_92 : decode cX6_write 92 = .ok (.bastore, 1) := by decide +kernel
theorem dX6_write_93 : decode cX6_write 93 = .ok (.aload_n 0, 1) := by decide +kernel
theorem dX6_write_94 : decode cX6_write 94 = .ok (.iconst 1, 1) := by decide +kernel
theorem dX6_write_95 : decode cX6_write 95 = .ok (.putfield 50, 3) := by decide +kernel
theorem dX6_write_98 : decode cX6_write 98 = .ok (.iconst 0, 1) := by decide +kernel
theorem dX6_write_99 : decode cX6_write 99 = .ok (.ireturn, 1) := by decide +kernel
set_option maxHeartbeats 4000000 in
set_option maxRecDepth 100000 in
theorem c_X6_write {G : xG} {n : Nat} {Q : Outcome → xS → Prop} {I : xI} {J : xJ} {R Z : xR} {T : xT} {N B : Nat} (hk : KS Z T N B) (hw : kBw I B) {b c i tg : Nat} (hb : b < B) (har : xAr c .byte 0 tg) (hlv : T.lv c i) (hb8 : xta c = 2) (hc5 : c ≠ 5) {t : Nat} (ht : t + 128 ≤ T.len c i ∧ t + 128 < 1000000) (hn : 1 ≤ n) (hq : Q (.returned (some (.int (b2i (¬ I 5 0 5 = 1))))) (kDW I b (I c i) t, J, R, Z, T)) : xCall G mX6_write n [.ref (T.ad 5 0), .int (nI b), .ref (T.ad c i), .int (nI t)] (I, J, R, Z, T) Q := by
  refine x_met (L0 := [(1, .ref (T.ad 5 0)), (1, .int (nI b)), (1, .ref (T.ad c i)), (1, .int (nI t)), xo]) (by decide +kernel) rfl ⟨Nat.le_of_ble_eq_true rfl, rfl⟩ ?_
  refine x_aload_n 1 dX6_write_0 rfl rfl ?_
  refine x_dup 2 dX6_write_1 rfl rfl ?_
  refine x_geti 5 dX6_write_2 rfl fl_X6_35 (hk.l5 (by omega)) ?_
  refine x_iconst (v := 1) 6 dX6_write_5 rfl rfl ?_
  refine x_iadd 7 dX6_write_6 rfl ?_
  refine x_puti 10 dX6_write_7 rfl fl_X6_35 rfl rfl (hk.l5 (by omega)) ?_
  refine x_nmI fun I1 hI1 => ?_
  refine x_aload_n 11 dX6_write_10 rfl rfl ?_
  refine x_geti 14 dX6_write_11 rfl fl_X6_38 (hk.l5 (by omega)) ?_
  refine x_iconst (v := 1) 15 dX6_write_14 rfl rfl ?_
  refine x_icmp_ne 22 18 dX6_write_15 (by decide) rfl (fun c15 => ?_) (fun c15 => ?_)
  · skip
    refine x_iconst (v := 0) 23 dX6_write_22 rfl rfl ?_
    refine x_istore 25 [(1, .ref (T.ad 5 0)), (1, .int (nI b)), (1, .ref (T.ad c i)), (1, .int (nI t)), (1, .int 0)] dX6_write_23 rfl (by decide) rfl ?_
    refine x_aload_n 26 dX6_write_25 rfl rfl ?_
    refine x_dup 27 dX6_write_26 rfl rfl ?_
    refine x_geti 30 dX6_write_27 rfl fl_X6_38 (hk.l5 (by omega)) ?_
    refine x_aload_n 31 dX6_write_30 rfl rfl ?_
    refine x_geti 34 dX6_write_31 rfl fl_X6_38 (hk.l5 (by omega)) ?_
    refine x_if_le 41 37 dX6_write_34 (by decide) rfl (fun c34 => ?_) (fun c34 => ?_)
    · skip
      refine x_iconst (v := 0) 42 dX6_write_41 rfl rfl ?_
      refine x_isub 43 dX6_write_42 rfl ?_
      refine x_puti 46 dX6_write_43 rfl fl_X6_38 rfl rfl (hk.l5 (by omega)) ?_
      refine x_nmI fun I2 hI2 => ?_
      have hI2g : I2 = kDW0 I := by rw [hI2, hI1]; unfold kDW0; rw [xu_k (by decide)]; first | rw [if_pos (by simpa [hI1, xu_k] using c34)] | rw [if_neg (by simpa [hI1, xu_k] using c34)]
      have htn := (hw.torn 0).2
      have hnb := hk.nb
      have hci : I2 c i = I c i := by rw [hI2, hI1]; funext k_; rw [xu_c hc5, xu_c hc5]
      have h35 : I2 35 0 = I 35 0 := by rw [hI2, hI1]; funext k_; rw [xu_c (by decide), xu_c (by decide)]
      refine x_aload_n 47 dX6_write_46 rfl rfl ?_
      refine x_iload_n 48 dX6_write_47 rfl rfl ?_
      refine x_aload_n 49 dX6_write_48 rfl rfl ?_
      refine x_getz 52 dX6_write_49 rfl fl_X6_27 (hk.l5 (by omega)) (hk.z5_3 (by omega)) ?_
      refine x_sipush (v := 128) 55 dX6_write_52 rfl rfl ?_
      refine x_iload_n 56 dX6_write_55 rfl rfl ?_
      refine x_imuln 128 b 57 dX6_write_56 rfl rfl rfl ?_
      refine x_iload 59 dX6_write_57 rfl rfl ?_
      refine x_if_eq 69 62 dX6_write_59 (by decide) rfl (fun c59 => ?_) (fun c59 => ?_)
      · skip
        refine x_sipush (v := 128) 72 dX6_write_69 rfl rfl ?_
        refine x_copyi (sp := t) (dp := (128 * b)) (m := 128) 75 dX6_write_72 rfl cp_X6_44 har ar_35 (Or.inr ⟨rfl, by decide, hb8⟩) ⟨by decide, fun h => by cases h⟩ hlv (hk.l35 (by omega)) (by decide) (by omega) (xst (Nat.le_of_ble_eq_true rfl)) ⟨by omega, by omega, by omega⟩ (by rw [(Eq.refl (T.len c i))]; omega) (by rw [(hk.n35 (by omega))]; omega) ?_
        refine x_nmI fun I3 hI3 => ?_
        refine x_iload 77 dX6_write_75 rfl rfl ?_
        refine x_if_ne 82 80 dX6_write_77 (by decide) rfl (fun c77 => ?_) (fun c77 => ?_)
        · skip
          exfalso; revert c77; decide
        · skip
          refine x_iconst (v := 1) 81 dX6_write_80 rfl rfl ?_
          refine x_zreturn dX6_write_81 rfl (Or.inr rfl) ?_
          have g5 : ¬ I 5 0 5 = 1 := by rw [hI1, xu_k (by decide)] at c15; exact c15
          rw [b2i_t g5] at hq
          unfold kDW at hq
          rw [if_neg g5] at hq
          rw [hI3, hci, h35, hI2g]; exact hq
      · skip
        exfalso; revert c59; decide
    · skip
      refine x_iconst (v := 1) 38 dX6_write_37 rfl rfl ?_
      refine x_goto 42 dX6_write_38 (by decide) ?_
      refine x_isub 43 dX6_write_42 rfl ?_
      refine x_puti 46 dX6_write_43 rfl fl_X6_38 rfl rfl (hk.l5 (by omega)) ?_
      refine x_nmI fun I2 hI2 => ?_
      have hI2g : I2 = kDW0 I := by rw [hI2, hI1]; unfold kDW0; rw [xu_k (by decide)]; first | rw [if_pos (by simpa [hI1, xu_k] using c34)] | rw [if_neg (by simpa [hI1, xu_k] using c34)]
      have htn := (hw.torn 0).2
      have hnb := hk.nb
      have hci : I2 c i = I c i := by rw [hI2, hI1]; funext k_; rw [xu_c hc5, xu_c hc5]
      have h35 : I2 35 0 = I 35 0 := by rw [hI2, hI1]; funext k_; rw [xu_c (by decide), xu_c (by decide)]
      refine x_aload_n 47 dX6_write_46 rfl rfl ?_
      refine x_iload_n 48 dX6_write_47 rfl rfl ?_
      refine x_aload_n 49 dX6_write_48 rfl rfl ?_
      refine x_getz 52 dX6_write_49 rfl fl_X6_27 (hk.l5 (by omega)) (hk.z5_3 (by omega)) ?_
      refine x_sipush (v := 128) 55 dX6_write_52 rfl rfl ?_
      refine x_iload_n 56 dX6_write_55 rfl rfl ?_
      refine x_imuln 128 b 57 dX6_write_56 rfl rfl rfl ?_
      refine x_iload 59 dX6_write_57 rfl rfl ?_
      refine x_if_eq 69 62 dX6_write_59 (by decide) rfl (fun c59 => ?_) (fun c59 => ?_)
      · skip
        refine x_sipush (v := 128) 72 dX6_write_69 rfl rfl ?_
        refine x_copyi (sp := t) (dp := (128 * b)) (m := 128) 75 dX6_write_72 rfl cp_X6_44 har ar_35 (Or.inr ⟨rfl, by decide, hb8⟩) ⟨by decide, fun h => by cases h⟩ hlv (hk.l35 (by omega)) (by decide) (by omega) (xst (Nat.le_of_ble_eq_true rfl)) ⟨by omega, by omega, by omega⟩ (by rw [(Eq.refl (T.len c i))]; omega) (by rw [(hk.n35 (by omega))]; omega) ?_
        refine x_nmI fun I3 hI3 => ?_
        refine x_iload 77 dX6_write_75 rfl rfl ?_
        refine x_if_ne 82 80 dX6_write_77 (by decide) rfl (fun c77 => ?_) (fun c77 => ?_)
        · skip
          exfalso; revert c77; decide
        · skip
          refine x_iconst (v := 1) 81 dX6_write_80 rfl rfl ?_
          refine x_zreturn dX6_write_81 rfl (Or.inr rfl) ?_
          have g5 : ¬ I 5 0 5 = 1 := by rw [hI1, xu_k (by decide)] at c15; exact c15
          rw [b2i_t g5] at hq
          unfold kDW at hq
          rw [if_neg g5] at hq
          rw [hI3, hci, h35, hI2g]; exact hq
      · skip
        exfalso; revert c59; decide
  · skip
    refine x_iconst (v := 1) 19 dX6_write_18 rfl rfl ?_
    refine x_goto 23 dX6_write_19 (by decide) ?_
    refine x_istore 25 [(1, .ref (T.ad 5 0)), (1, .int (nI b)), (1, .ref (T.ad c i)), (1, .int (nI t)), (1, .int 1)] dX6_write_23 rfl (by decide) rfl ?_
    refine x_aload_n 26 dX6_write_25 rfl rfl ?_
    refine x_dup 27 dX6_write_26 rfl rfl ?_
    refine x_geti 30 dX6_write_27 rfl fl_X6_38 (hk.l5 (by omega)) ?_
    refine x_aload_n 31 dX6_write_30 rfl rfl ?_
    refine x_geti 34 dX6_write_31 rfl fl_X6_38 (hk.l5 (by omega)) ?_
    refine x_if_le 41 37 dX6_write_34 (by decide) rfl (fun c34 => ?_) (fun c34 => ?_)
    · skip
      refine x_iconst (v := 0) 42 dX6_write_41 rfl rfl ?_
      refine x_isub 43 dX6_write_42 rfl ?_
      refine x_puti 46 dX6_write_43 rfl fl_X6_38 rfl rfl (hk.l5 (by omega)) ?_
      refine x_nmI fun I2 hI2 => ?_
      have hI2g : I2 = kDW0 I := by rw [hI2, hI1]; unfold kDW0; rw [xu_k (by decide)]; first | rw [if_pos (by simpa [hI1, xu_k] using c34)] | rw [if_neg (by simpa [hI1, xu_k] using c34)]
      have htn := (hw.torn 0).2
      have hnb := hk.nb
      have hci : I2 c i = I c i := by rw [hI2, hI1]; funext k_; rw [xu_c hc5, xu_c hc5]
      have h35 : I2 35 0 = I 35 0 := by rw [hI2, hI1]; funext k_; rw [xu_c (by decide), xu_c (by decide)]
      refine x_aload_n 47 dX6_write_46 rfl rfl ?_
      refine x_iload_n 48 dX6_write_47 rfl rfl ?_
      refine x_aload_n 49 dX6_write_48 rfl rfl ?_
      refine x_getz 52 dX6_write_49 rfl fl_X6_27 (hk.l5 (by omega)) (hk.z5_3 (by omega)) ?_
      refine x_sipush (v := 128) 55 dX6_write_52 rfl rfl ?_
      refine x_iload_n 56 dX6_write_55 rfl rfl ?_
      refine x_imuln 128 b 57 dX6_write_56 rfl rfl rfl ?_
      refine x_iload 59 dX6_write_57 rfl rfl ?_
      refine x_if_eq 69 62 dX6_write_59 (by decide) rfl (fun c59 => ?_) (fun c59 => ?_)
      · skip
        exfalso; revert c59; decide
      · skip
        refine x_aload_n 63 dX6_write_62 rfl rfl ?_
        refine x_geti 66 dX6_write_63 rfl fl_X6_41 (hk.l5 (by omega)) ?_
        refine x_vi (w := nI (iN (I 5 0 6))) (by rw [hI2, xu_k (by decide), hI1, xu_k (by decide)]; exact (hw.torn 0).1) ?_
        refine x_goto 72 dX6_write_66 (by decide) ?_
        refine x_copyi (sp := t) (dp := (128 * b)) (m := (iN (I 5 0 6))) 75 dX6_write_72 rfl cp_X6_44 har ar_35 (Or.inr ⟨rfl, by decide, hb8⟩) ⟨by decide, fun h => by cases h⟩ hlv (hk.l35 (by omega)) (by decide) (by omega) (xst (Nat.le_of_ble_eq_true rfl)) ⟨by omega, by omega, by omega⟩ (by rw [(Eq.refl (T.len c i))]; omega) (by rw [(hk.n35 (by omega))]; omega) ?_
        refine x_nmI fun I3 hI3 => ?_
        refine x_iload 77 dX6_write_75 rfl rfl ?_
        refine x_if_ne 82 80 dX6_write_77 (by decide) rfl (fun c77 => ?_) (fun c77 => ?_)
        · skip
          refine x_aload_n 83 dX6_write_82 rfl rfl ?_
          refine x_getz 86 dX6_write_83 rfl fl_X6_27 (hk.l5 (by omega)) (hk.z5_3 (by omega)) ?_
          refine x_sipush (v := 128) 89 dX6_write_86 rfl rfl ?_
          refine x_iload_n 90 dX6_write_89 rfl rfl ?_
          refine x_imuln 128 b 91 dX6_write_90 rfl rfl rfl ?_
          refine x_iconst (v := -1) 92 dX6_write_91 rfl rfl ?_
          refine x_bast 93 dX6_write_92 rfl ar_35 (by decide) (by decide) (hk.l35 (by omega)) (xb (hk.n35 (by omega)) (by omega) (by omega)) ?_
          refine x_nmI fun I4 hI4 => ?_
          refine x_aload_n 94 dX6_write_93 rfl rfl ?_
          refine x_iconst (v := 1) 95 dX6_write_94 rfl rfl ?_
          refine x_puti 98 dX6_write_95 rfl fl_X6_50 rfl rfl (hk.l5 (by omega)) ?_
          refine x_nmI fun I5 hI5 => ?_
          refine x_iconst (v := 0) 99 dX6_write_98 rfl rfl ?_
          refine x_zreturn dX6_write_99 rfl (Or.inl rfl) ?_
          have g5 : I 5 0 5 = 1 := by rw [← c15, hI1, xu_k (by decide)]
          rw [b2i_f (fun h => h g5)] at hq
          unfold kDW at hq
          rw [if_pos g5] at hq
          rw [hI5, hI4, hI3, hci, h35, hI2g]; exact hq
        · skip
          exfalso; revert c77; decide
    · skip
      refine x_iconst (v := 1) 38 dX6_write_37 rfl rfl ?_
      refine x_goto 42 dX6_write_38 (by decide) ?_
      refine x_isub 43 dX6_write_42 rfl ?_
      refine x_puti 46 dX6_write_43 rfl fl_X6_38 rfl rfl (hk.l5 (by omega)) ?_
      refine x_nmI fun I2 hI2 => ?_
      have hI2g : I2 = kDW0 I := by rw [hI2, hI1]; unfold kDW0; rw [xu_k (by decide)]; first | rw [if_pos (by simpa [hI1, xu_k] using c34)] | rw [if_neg (by simpa [hI1, xu_k] using c34)]
      have htn := (hw.torn 0).2
      have hnb := hk.nb
      have hci : I2 c i = I c i := by rw [hI2, hI1]; funext k_; rw [xu_c hc5, xu_c hc5]
      have h35 : I2 35 0 = I 35 0 := by rw [hI2, hI1]; funext k_; rw [xu_c (by decide), xu_c (by decide)]
      refine x_aload_n 47 dX6_write_46 rfl rfl ?_
      refine x_iload_n 48 dX6_write_47 rfl rfl ?_
      refine x_aload_n 49 dX6_write_48 rfl rfl ?_
      refine x_getz 52 dX6_write_49 rfl fl_X6_27 (hk.l5 (by omega)) (hk.z5_3 (by omega)) ?_
      refine x_sipush (v := 128) 55 dX6_write_52 rfl rfl ?_
      refine x_iload_n 56 dX6_write_55 rfl rfl ?_
      refine x_imuln 128 b 57 dX6_write_56 rfl rfl rfl ?_
      refine x_iload 59 dX6_write_57 rfl rfl ?_
      refine x_if_eq 69 62 dX6_write_59 (by decide) rfl (fun c59 => ?_) (fun c59 => ?_)
      · skip
        exfalso; revert c59; decide
      · skip
        refine x_aload_n 63 dX6_write_62 rfl rfl ?_
        refine x_geti 66 dX6_write_63 rfl fl_X6_41 (hk.l5 (by omega)) ?_
        refine x_vi (w := nI (iN (I 5 0 6))) (by rw [hI2, xu_k (by decide), hI1, xu_k (by decide)]; exact (hw.torn 0).1) ?_
        refine x_goto 72 dX6_write_66 (by decide) ?_
        refine x_copyi (sp := t) (dp := (128 * b)) (m := (iN (I 5 0 6))) 75 dX6_write_72 rfl cp_X6_44 har ar_35 (Or.inr ⟨rfl, by decide, hb8⟩) ⟨by decide, fun h => by cases h⟩ hlv (hk.l35 (by omega)) (by decide) (by omega) (xst (Nat.le_of_ble_eq_true rfl)) ⟨by omega, by omega, by omega⟩ (by rw [(Eq.refl (T.len c i))]; omega) (by rw [(hk.n35 (by omega))]; omega) ?_
        refine x_nmI fun I3 hI3 => ?_
        refine x_iload 77 dX6_write_75 rfl rfl ?_
        refine x_if_ne 82 80 dX6_write_77 (by decide) rfl (fun c77 => ?_) (fun c77 => ?_)
        · skip
          refine x_aload_n 83 dX6_write_82 rfl rfl ?_
          refine x_getz 86 dX6_write_83 rfl fl_X6_27 (hk.l5 (by omega)) (hk.z5_3 (by omega)) ?_
          refine x_sipush (v := 128) 89 dX6_write_86 rfl rfl ?_
          refine x_iload_n 90 dX6_write_89 rfl rfl ?_
          refine x_imuln 128 b 91 dX6_write_90 rfl rfl rfl ?_
          refine x_iconst (v := -1) 92 dX6_write_91 rfl rfl ?_
          refine x_bast 93 dX6_write_92 rfl ar_35 (by decide) (by decide) (hk.l35 (by omega)) (xb (hk.n35 (by omega)) (by omega) (by omega)) ?_
          refine x_nmI fun I4 hI4 => ?_
          refine x_aload_n 94 dX6_write_93 rfl rfl ?_
          refine x_iconst (v := 1) 95 dX6_write_94 rfl rfl ?_
          refine x_puti 98 dX6_write_95 rfl fl_X6_50 rfl rfl (hk.l5 (by omega)) ?_
          refine x_nmI fun I5 hI5 => ?_
          refine x_iconst (v := 0) 99 dX6_write_98 rfl rfl ?_
          refine x_zreturn dX6_write_99 rfl (Or.inl rfl) ?_
          have g5 : I 5 0 5 = 1 := by rw [← c15, hI1, xu_k (by decide)]
          rw [b2i_f (fun h => h g5)] at hq
          unfold kDW at hq
          rw [if_pos g5] at hq
          rw [hI5, hI4, hI3, hci, h35, hI2g]; exact hq
        · skip
          exfalso; revert c77; decide
def kOther (I : xI) (e : Nat) : Prop := ∃ k, k < 128 ∧ ¬ I 20 0 (128 * e + k) = I 35 0 (128 * e + k)
theorem dX1_isOther_0 : decode cX1_isOther 0 = .ok (.sipush 128, 3) := by decide +kernel
theorem dX1_isOther_3 : decode cX1_isOther 3 = .ok (.iload_n 1, 1) := by decide +kernel
theorem dX1_isOther_4 : decode cX1_isOther 4 = .ok (.imul, 1) := by decide +kernel
theorem dX1_isOther_5 : decode cX1_isOther 5 = .ok (.istore_n 2, 1) := by decide +kernel
theorem dX1_isOther_6 : decode cX1_isOther 6 = .ok (.iload_n 2, 1) := by decide +kernel
theorem dX1_isOther_7 : decode cX1_isOther 7 = .ok (.sipush 128, 3) := by decide +kernel
theorem dX1_isOther_10 : decode cX1_isOther 10 = .ok (.iload_n 1, 1) := by decide +kernel
theorem dX1_isOther_11 : decode cX1_isOther 11 = .ok (.imul, 1) := by decide +kernel
theorem dX1_isOther_12 : decode cX1_isOther 12 = .ok (.sipush 128, 3) := by decide +kernel
theorem dX1_isOther_15 : decode cX1_isOther 15 = .ok (.iadd, 1) := by decide +kernel
theorem dX1_isOther_16 : decode cX1_isOther 16 = .ok (.if_icmp .ge 29, 3) := by decide +kernel
theorem dX1_isOther_19 : decode cX1_isOther 19 = .ok (.aload_n 0, 1) := by decide +kernel
theorem dX1_isOther_20 : decode cX1_isOther 20 = .ok (.getfield 99, 3) := by decide +kernel
theorem dX1_isOther_23 : decode cX1_isOther 23 = .ok (.iload_n 2, 1) := by decide +kernel
theorem dX1_isOther_24 : decode cX1_isOther 24 = .ok (.baload, 1) := by decide +kernel
theorem dX1_isOther_25 : decode cX1_isOther 25 = .ok (.aload_n 0, 1) := by decide +kernel
theorem dX1_isOther_26 : decode cX1_isOther 26 = .ok (.getfield 92, 3) := by decide +kernel
theorem dX1_isOther_29 : decode cX1_isOther 29 = .ok (.getfield 127, 3) := by decide +kernel
theorem dX1_isOther_32 : decode cX1_isOther 32 = .ok (.iload_n 2, 1) := by decide +kernel
theorem dX1_isOther_33 : decode cX1_isOther 33 = .ok (.baload, 1) := by decide +kernel
theorem dX1_isOther_34 : decode cX1_isOther 34 = .ok (.if_icmp .eq 5, 3) := by decide +kernel
theorem dX1_isOther_37 : decode cX1_isOther 37 = .ok (.iconst 1, 1) := by decide +kernel
theorem dX1_isOther_38 : decode cX1_isOther 38 = .ok (.ireturn, 1) := by decide +kernel
theorem dX1_isOther_39 : decode cX1_isOther 39 = .ok (.iinc 2 1, 3) := by decide +kernel
theorem dX1_isOther_42 : decode cX1_isOther 42 = .ok (.goto (-36), 3) := by decide +kernel
theorem dX1_isOther_45 : decode cX1_isOther 45 = .ok (.iconst 0, 1) := by decide +kernel
theorem dX1_isOther_46 : decode cX1_isOther 46 = .ok (.ireturn, 1) := by decide +kernel
set_option maxHeartbeats 4000000 in
set_option maxRecDepth 100000 in
theorem l_X1_isOther {G : xG} {n a b : Nat} {Q : Outcome → xS → Prop} {J : xJ} {Z : xR} {T : xT} {R : xR} {I : xI} {N B : Nat} (hk : KS Z T N B) {e : Nat} (hb : e < B) (hq : Q (.returned (some (.int (b2i (kOther I e)))))  (I, J, R, Z, T)) (k : Nat) (hn : 1 ≤ n) :
    (128 * e ≤ k ∧ k ≤ 128 * e + 128) → (∀ j, 128 * e ≤ j → j < k → I 20 0 j = I 35 0 j) → X G mX1_isOther n a b Q (I, J, R, Z, T) 6 [(1, .ref (T.ad 0 0)), (1, .int (nI e)), (1, .int (nI k))] [] := by
  induction hm : 128 * e + 128 - k using Nat.strongRecOn generalizing k with
  | _ m_ ih =>
    intro h8 hv
    have hnb := hk.nb
    refine x_iload_n 7 dX1_isOther_6 rfl rfl ?_
    refine x_sipush (v := 128) 10 dX1_isOther_7 rfl rfl ?_
    refine x_iload_n 11 dX1_isOther_10 rfl rfl ?_
    refine x_imuln 128 e 12 dX1_isOther_11 rfl rfl rfl ?_
    refine x_sipush (v := 128) 15 dX1_isOther_12 rfl rfl ?_
    refine x_iaddn (128 * e) 128 16 dX1_isOther_15 rfl rfl rfl ?_
    refine x_icmp_ge 45 19 dX1_isOther_16 (by decide) rfl (fun c16 => ?_) (fun c16 => ?_)
    · skip
      have c16 : (128 * e) + 128 ≤ k := (nI_leI (a := (128 * e) + 128) (b := k) (by omega) (by omega)).mp c16
      refine x_iconst (v := 0) 46 dX1_isOther_45 rfl rfl ?_
      refine x_zreturn dX1_isOther_46 rfl (Or.inl rfl) ?_
      exact xr0 (P := kOther I e) (fun ⟨j, h1, h2⟩ => h2 (hv _ (by omega) (by omega))) hq
    · skip
      have c16 : ¬ ((128 * e) + 128 ≤ k) := fun h => c16 ((nI_leI (a := (128 * e) + 128) (b := k) (by omega) (by omega)).mpr h)
      refine x_aload_n 20 dX1_isOther_19 rfl rfl ?_
      refine x_getz 23 dX1_isOther_20 rfl fl_X1_99 (hk.l0 (by omega)) (hk.z0_2 (by omega)) ?_
      refine x_iload_n 24 dX1_isOther_23 rfl rfl ?_
      refine x_bald 25 dX1_isOther_24 rfl ar_20 (hk.l20 (by omega)) (xb (hk.n20 (by omega)) (by omega) (by omega)) ?_
      refine x_aload_n 26 dX1_isOther_25 rfl rfl ?_
      refine x_getz 29 dX1_isOther_26 rfl fl_X1_92 (hk.l0 (by omega)) (hk.z0_0 (by omega)) ?_
      refine x_getz 32 dX1_isOther_29 rfl fl_X1_127 (hk.l5 (by omega)) (hk.z5_3 (by omega)) ?_
      refine x_iload_n 33 dX1_isOther_32 rfl rfl ?_
      refine x_bald 34 dX1_isOther_33 rfl ar_35 (hk.l35 (by omega)) (xb (hk.n35 (by omega)) (by omega) (by omega)) ?_
      refine x_icmp_eq 39 37 dX1_isOther_34 (by decide) rfl (fun c34 => ?_) (fun c34 => ?_)
      · skip
        refine x_iinc 42 [(1, .ref (T.ad 0 0)), (1, .int (nI e)), (1, .int (nI (k + 1)))] dX1_isOther_39 rfl (by decide) rfl (xi_1 k) rfl ?_
        refine x_goto 6 dX1_isOther_42 (by decide) ?_
        exact ih _ (by rw [← hm]; omega) (k + 1) rfl (by omega) (fun j h1 h2 => (Nat.lt_succ_iff_lt_or_eq.mp h2).elim (hv j h1) (fun e_ => by rw [e_]; exact c34))
      · skip
        refine x_iconst (v := 1) 38 dX1_isOther_37 rfl rfl ?_
        refine x_zreturn dX1_isOther_38 rfl (Or.inr rfl) ?_
        exact xr1 (P := kOther I e) (⟨k - 128 * e, by omega, by rw [show 128 * e + (k - 128 * e) = k by omega]; exact c34⟩) hq
set_option maxHeartbeats 4000000 in
set_option maxRecDepth 100000 in
theorem c_X1_isOther {G : xG} {n : Nat} {Q : Outcome → xS → Prop} {I : xI} {J : xJ} {R Z : xR} {T : xT} {N B : Nat} (hk : KS Z T N B) {e : Nat} (hb : e < B) (hn : 1 ≤ n) (hq : Q (.returned (some (.int (b2i (kOther I e)))))  (I, J, R, Z, T)) : xCall G mX1_isOther n [.ref (T.ad 0 0), .int (nI e)] (I, J, R, Z, T) Q := by
  refine x_met (L0 := [(1, .ref (T.ad 0 0)), (1, .int (nI e)), xo]) (by decide +kernel) rfl ⟨Nat.le_of_ble_eq_true rfl, rfl⟩ ?_
  refine x_sipush (v := 128) 3 dX1_isOther_0 rfl rfl ?_
  refine x_iload_n 4 dX1_isOther_3 rfl rfl ?_
  refine x_imuln 128 e 5 dX1_isOther_4 rfl rfl rfl ?_
  refine x_istore_n 6 [(1, .ref (T.ad 0 0)), (1, .int (nI e)), (1, .int (nI (128 * e)))] dX1_isOther_5 rfl (by decide) rfl ?_
  exact l_X1_isOther hk hb hq (128 * e) hn (by omega) (fun j h1 h2 => absurd h2 (by omega))
noncomputable def kTk (B D Lg : Nat) (I : xI) : Option Nat := fst0 (fun k => I 22 0 k = 0) (1 + D + Lg) (B - (1 + D + Lg))
noncomputable def kTkI (B D Lg : Nat) (I : xI) : xI := match kTk B D Lg I with
  | none => I
  | some k => xu I 22 0 k 1
theorem kTk_lt {B D Lg : Nat} {I : xI} {k : Nat} (h : kTk B D Lg I = some k) : 1 + D + Lg ≤ k ∧ k < B := by
  have := fst0_spec _ _ _ h
  omega
theorem KD.tk {I : xI} {N B D Lg B' D' Lg' : Nat} (h : KD I N B D Lg) : KD (kTkI B' D' Lg' I) N B D Lg := by
  unfold kTkI; split
  · exact h
  · exact h.u (by omega)
theorem kBw.tk {I : xI} {B B' D Lg : Nat} (h : kBw I B) : kBw (kTkI B' D Lg I) B := by
  unfold kTkI; split
  · exact h
  · exact h.u rfl (by omega)
theorem dX1_takeBlock_0 : decode cX1_takeBlock 0 = .ok (.aload_n 0, 1) := by decide +kernel
theorem dX1_takeBlock_1 : decode cX1_takeBlock 1 = .ok (.getfield 92, 3) := by decide +kernel
theorem dX1_takeBlock_4 : decode cX1_takeBlock 4 = .ok (.invokevirtual 400, 3) := by decide +kernel
theorem dX1_takeBlock_7 : decode cX1_takeBlock 7 = .ok (.istore_n 1, 1) := by decide +kernel
theorem dX1_takeBlock_8 : decode cX1_takeBlock 8 = .ok (.iload_n 1, 1) := by decide +kernel
theorem dX1_takeBlock_9 : decode cX1_takeBlock 9 = .ok (.aload_n 0, 1) := by decide +kernel
theorem dX1_takeBlock_10 : decode cX1_takeBlock 10 = .ok (.getfield 92, 3) := by decide +kernel
theorem dX1_takeBlock_13 : decode cX1_takeBlock 13 = .ok (.getfield 96, 3) := by decide +kernel
theorem dX1_takeBlock_16 : decode cX1_takeBlock 16 = .ok (.if_icmp .ge 30, 3) := by decide +kernel
theorem dX1_takeBlock_19 : decode cX1_takeBlock 19 = .ok (.aload_n 0, 1) := by decide +kernel
theorem dX1_takeBlock_20 : decode cX1_takeBlock 20 = .ok (.getfield 106, 3) := by decide +kernel
theorem dX1_takeBlock_23 : decode cX1_takeBlock 23 = .ok (.iload_n 1, 1) := by decide +kernel
theorem dX1_takeBlock_24 : decode cX1_takeBlock 24 = .ok (.baload, 1) := by decide +kernel
theorem dX1_takeBlock_25 : decode cX1_takeBlock 25 = .ok (.ifCond .eq 6, 3) := by decide +kernel
theorem dX1_takeBlock_28 : decode cX1_takeBlock 28 = .ok (.goto 12, 3) := by decide +kernel
theorem dX1_takeBlock_31 : decode cX1_takeBlock 31 = .ok (.aload_n 0, 1) := by decide +kernel
theorem dX1_takeBlock_32 : decode cX1_takeBlock 32 = .ok (.getfield 106, 3) := by decide +kernel
theorem dX1_takeBlock_35 : decode cX1_takeBlock 35 = .ok (.iload_n 1, 1) := by decide +kernel
theorem dX1_takeBlock_36 : decode cX1_takeBlock 36 = .ok (.iconst 1, 1) := by decide +kernel
theorem dX1_takeBlock_37 : decode cX1_takeBlock 37 = .ok (.bastore, 1) := by decide +kernel
theorem dX1_takeBlock_38 : decode cX1_takeBlock 38 = .ok (.iload_n 1, 1) := by decide +kernel
theorem dX1_takeBlock_39 : decode cX1_takeBlock 39 = .ok (.ireturn, 1) := by decide +kernel
theorem dX1_takeBlock_40 : decode cX1_takeBlock 40 = .ok (.iinc 1 1, 3) := by decide +kernel
theorem dX1_takeBlock_43 : decode cX1_takeBlock 43 = .ok (.goto (-35), 3) := by decide +kernel
theorem dX1_takeBlock_46 : decode cX1_takeBlock 46 = .ok (.iconst (-1), 1) := by decide +kernel
theorem dX1_takeBlock_47 : decode cX1_takeBlock 47 = .ok (.ireturn, 1) := by decide +kernel
set_option maxHeartbeats 4000000 in
set_option maxRecDepth 100000 in
theorem l_X1_takeBlock {G : xG} {n a b : Nat} {Q : Outcome → xS → Prop} {J : xJ} {Z : xR} {T : xT} {R : xR} {I : xI} {N B D Lg : Nat} (hk : KS Z T N B) (hd : KD I N B D Lg) (hq : Q (.returned (some (.int (oI (kTk B D Lg I))))) (kTkI B D Lg I, J, R, Z, T)) (k : Nat) (hn : 1 ≤ n) :
    (1 + D + Lg ≤ k ∧ k ≤ B) → (∀ j, 1 + D + Lg ≤ j → j < k → ¬ I 22 0 j = 0) → X G mX1_takeBlock n a b Q (I, J, R, Z, T) 8 [(1, .ref (T.ad 0 0)), (1, .int (nI k))] [] := by
  induction hm : B - k using Nat.strongRecOn generalizing k with
  | _ m_ ih =>
    intro h8 hv
    have hdn := hd.n
    refine x_iload_n 9 dX1_takeBlock_8 rfl rfl ?_
    refine x_aload_n 10 dX1_takeBlock_9 rfl rfl ?_
    refine x_getz 13 dX1_takeBlock_10 rfl fl_X1_92 (hk.l0 (by omega)) (hk.z0_0 (by omega)) ?_
    refine x_geti 16 dX1_takeBlock_13 rfl fl_X1_96 (hk.l5 (by omega)) ?_
    refine x_vi (w := nI B) hd.b ?_
    refine x_icmp_ge 46 19 dX1_takeBlock_16 (by decide) rfl (fun c16 => ?_) (fun c16 => ?_)
    · skip
      have c16 : B ≤ k := (nI_leI (a := B) (b := k) (by omega) (by omega)).mp c16
      refine x_iconst (v := -1) 47 dX1_takeBlock_46 rfl rfl ?_
      refine x_ireturn dX1_takeBlock_47 rfl ?_
      have e : kTk B D Lg I = none := fst0_none _ _ (fun j h1 h2 => hv j h1 (by omega))
      unfold kTkI at hq; rw [e] at hq; exact hq
    · skip
      have c16 : ¬ (B ≤ k) := fun h => c16 ((nI_leI (a := B) (b := k) (by omega) (by omega)).mpr h)
      refine x_aload_n 20 dX1_takeBlock_19 rfl rfl ?_
      refine x_getz 23 dX1_takeBlock_20 rfl fl_X1_106 (hk.l0 (by omega)) (hk.z0_4 (by omega)) ?_
      refine x_iload_n 24 dX1_takeBlock_23 rfl rfl ?_
      refine x_zald 25 dX1_takeBlock_24 rfl ar_22 (hk.l22 (by omega)) (xb (hk.n22 (by omega)) (by omega) (by omega)) ?_
      refine x_if_eq 31 28 dX1_takeBlock_25 (by decide) rfl (fun c25 => ?_) (fun c25 => ?_)
      · skip
        refine x_aload_n 32 dX1_takeBlock_31 rfl rfl ?_
        refine x_getz 35 dX1_takeBlock_32 rfl fl_X1_106 (hk.l0 (by omega)) (hk.z0_4 (by omega)) ?_
        refine x_iload_n 36 dX1_takeBlock_35 rfl rfl ?_
        refine x_iconst (v := 1) 37 dX1_takeBlock_36 rfl rfl ?_
        refine x_zast 38 dX1_takeBlock_37 rfl ar_22 (by decide) (by decide) (Or.inr rfl) (hk.l22 (by omega)) (xb (hk.n22 (by omega)) (by omega) (by omega)) ?_
        refine x_nmI fun I1 hI1 => ?_
        refine x_iload_n 39 dX1_takeBlock_38 rfl rfl ?_
        refine x_ireturn dX1_takeBlock_39 rfl ?_
        have e : kTk B D Lg I = some k := fst0_some _ _ _ (by omega) (by omega) c25 (fun j h1 h2 => hv j h1 h2)
        unfold kTkI at hq; rw [e] at hq; rw [hI1]; exact hq
      · skip
        refine x_goto 40 dX1_takeBlock_28 (by decide) ?_
        refine x_iinc 43 [(1, .ref (T.ad 0 0)), (1, .int (nI (k + 1)))] dX1_takeBlock_40 rfl (by decide) rfl (xi_1 k) rfl ?_
        refine x_goto 8 dX1_takeBlock_43 (by decide) ?_
        exact ih _ (by rw [← hm]; omega) (k + 1) rfl (by omega) (fun j h1 h2 => (Nat.lt_succ_iff_lt_or_eq.mp h2).elim (hv j h1) (fun e => by rw [e]; exact c25))
set_option maxHeartbeats 4000000 in
set_option maxRecDepth 100000 in
theorem c_X1_takeBlock {G : xG} {n : Nat} {Q : Outcome → xS → Prop} {I : xI} {J : xJ} {R Z : xR} {T : xT} {N B D Lg : Nat} (hk : KS Z T N B) (hd : KD I N B D Lg) (hn : 2 ≤ n) (hq : Q (.returned (some (.int (oI (kTk B D Lg I))))) (kTkI B D Lg I, J, R, Z, T)) : xCall G mX1_takeBlock n [.ref (T.ad 0 0)] (I, J, R, Z, T) Q := by
  refine x_met (L0 := [(1, .ref (T.ad 0 0)), xo]) (by decide +kernel) rfl ⟨Nat.le_of_ble_eq_true rfl, rfl⟩ ?_
  have hdn := hd.n
  refine x_aload_n 1 dX1_takeBlock_0 rfl rfl ?_
  refine x_getz 4 dX1_takeBlock_1 rfl fl_X1_92 (hk.l0 (by omega)) (hk.z0_0 (by omega)) ?_
  refine x_callV (as := []) (rest := []) (i := 0) (n' := n - 1) 7 dX1_takeBlock_4 rfl mv_X1_400 rfl rfl (hk.l5 (by omega)) (xnh rfl) (by omega) (xst (Nat.le_of_ble_eq_true rfl)) (c_X6_firstData hk hd (by omega) ?_)
  change X _ _ _ _ _ _ _ _ _ _
  refine x_istore_n 8 [(1, .ref (T.ad 0 0)), (1, .int (nI (1 + D + Lg)))] dX1_takeBlock_7 rfl (by decide) rfl ?_
  exact l_X1_takeBlock hk hd hq (1 + D + Lg) (by omega) (by omega) (fun j h1 h2 => absurd h2 (by omega))
noncomputable def kMt1 (B D Lg : Nat) (I : xI) (k : Nat) : xI := xu I 22 0 k (b2i (¬ isDat B D Lg k))
def kMtb (i : Nat) (I : xI) (k : Nat) : xI := xu I 22 0 (iN (I 38 i k)) 1
def kMt2 (I : xI) (i : Nat) : xI := if (itA (kMtb i) I (iN (I 6 i 17))) 6 i 18 ≤ 0 then itA (kMtb i) I (iN (I 6 i 17)) else xu (itA (kMtb i) I (iN (I 6 i 17))) 22 0 (iN ((itA (kMtb i) I (iN (I 6 i 17))) 6 i 18)) 1
/-- blocks that are taken are marked -/
noncomputable def kMkT (N B D Lg : Nat) (I : xI) : xI := itA kMt2 (itA (kMt1 B D Lg) I B) N
theorem itA_c {f : xI → Nat → xI} {c : Nat} (h : ∀ A k i j, f A k c i j = A c i j) (A : xI) : ∀ n i j, itA f A n c i j = A c i j
  | 0, _, _ => rfl
  | n + 1, i, j => (h _ _ i j).trans (itA_c h A n i j)
theorem kMtb_c {i : Nat} {A : xI} {n c p q : Nat} (h : c ≠ 22) : itA (kMtb i) A n c p q = A c p q := itA_c (f := kMtb i) (fun A k p q => by unfold kMtb; exact xu_c h) A n p q
theorem kMt2_c {A : xI} {i c p q : Nat} (h : c ≠ 22) : kMt2 A i c p q = A c p q := by
  unfold kMt2; split
  · exact kMtb_c h
  · rw [xu_c h]; exact kMtb_c h
theorem kMkT_c {A : xI} {N B D Lg c p q : Nat} (h : c ≠ 22) : kMkT N B D Lg A c p q = A c p q := by
  unfold kMkT; exact (itA_c (f := kMt2) (fun A k p q => kMt2_c h) _ N p q).trans (itA_c (f := kMt1 B D Lg) (fun A k p q => by unfold kMt1; exact xu_c h) A B p q)
theorem kBw.c22 {A A' : xI} {B : Nat} (h : kBw A B) (e : ∀ c p q, c ≠ 22 → A' c p q = A c p q) : kBw A' B :=
  ⟨fun c i k m g => by
    by_cases q : c = 22
    · subst q; cases g
    · rw [e _ _ _ q]; exact h.1 _ _ _ _ g, fun i => by rw [e _ _ _ (by decide)]; exact h.2 i⟩
theorem dX1_markTaken_0 : decode cX1_markTaken 0 = .ok (.iconst 0, 1) := by decide +kernel
theorem dX1_markTaken_1 : decode cX1_markTaken 1 = .ok (.istore_n 1, 1) := by decide +kernel
theorem dX1_markTaken_2 : decode cX1_markTaken 2 = .ok (.iload_n 1, 1) := by decide +kernel
theorem dX1_markTaken_3 : decode cX1_markTaken 3 = .ok (.aload_n 0, 1) := by decide +kernel
theorem dX1_markTaken_4 : decode cX1_markTaken 4 = .ok (.getfield 92, 3) := by decide +kernel
theorem dX1_markTaken_7 : decode cX1_markTaken 7 = .ok (.getfield 96, 3) := by decide +kernel
theorem dX1_markTaken_10 : decode cX1_markTaken 10 = .ok (.if_icmp .ge 31, 3) := by decide +kernel
theorem dX1_markTaken_13 : decode cX1_markTaken 13 = .ok (.aload_n 0, 1) := by decide +kernel
theorem dX1_markTaken_14 : decode cX1_markTaken 14 = .ok (.getfield 106, 3) := by decide +kernel
theorem dX1_markTaken_17 : decode cX1_markTaken 17 = .ok (.iload_n 1, 1) := by decide +kernel
theorem dX1_markTaken_18 : decode cX1_markTaken 18 = .ok (.aload_n 0, 1) := by decide +kernel
theorem dX1_markTaken_19 : decode cX1_markTaken 19 = .ok (.getfield 92, 3) := by decide +kernel
theorem dX1_markTaken_22 : decode cX1_markTaken 22 = .ok (.iload_n 1, 1) := by decide +kernel
theorem dX1_markTaken_23 : decode cX1_markTaken 23 = .ok (.invokevirtual 391, 3) := by decide +kernel
theorem dX1_markTaken_26 : decode cX1_markTaken 26 = .ok (.ifCond .ne 7, 3) := by decide +kernel
theorem dX1_markTaken_29 : decode cX1_markTaken 29 = .ok (.iconst 1, 1) := by decide +kernel
theorem dX1_markTaken_30 : decode cX1_markTaken 30 = .ok (.goto 4, 3) := by decide +kernel
theorem dX1_markTaken_33 : decode cX1_markTaken 33 = .ok (.iconst 0, 1) := by decide +kernel
theorem dX1_markTaken_34 : decode cX1_markTaken 34 = .ok (.bastore, 1) := by decide +kernel
theorem dX1_markTaken_35 : decode cX1_markTaken 35 = .ok (.iinc 1 1, 3) := by decide +kernel
theorem dX1_markTaken_38 : decode cX1_markTaken 38 = .ok (.goto (-36), 3) := by decide +kernel
theorem dX1_markTaken_41 : decode cX1_markTaken 41 = .ok (.aload_n 0, 1) := by decide +kernel
theorem dX1_markTaken_42 : decode cX1_markTaken 42 = .ok (.getfield 115, 3) := by decide +kernel
theorem dX1_markTaken_45 : decode cX1_markTaken 45 = .ok (.astore_n 1, 1) := by decide +kernel
theorem dX1_markTaken_46 : decode cX1_markTaken 46 = .ok (.aload_n 1, 1) := by decide +kernel
theorem dX1_markTaken_47 : decode cX1_markTaken 47 = .ok (.arraylength, 1) := by decide +kernel
theorem dX1_markTaken_48 : decode cX1_markTaken 48 = .ok (.istore_n 2, 1) := by decide +kernel
theorem dX1_markTaken_49 : decode cX1_markTaken 49 = .ok (.iconst 0, 1) := by decide +kernel
theorem dX1_markTaken_50 : decode cX1_markTaken 50 = .ok (.istore_n 3, 1) := by decide +kernel
theorem dX1_markTaken_51 : decode cX1_markTaken 51 = .ok (.iload_n 3, 1) := by decide +kernel
theorem dX1_markTaken_52 : decode cX1_markTaken 52 = .ok (.iload_n 2, 1) := by decide +kernel
theorem dX1_markTaken_53 : decode cX1_markTaken 53 = .ok (.if_icmp .ge 66, 3) := by decide +kernel
theorem dX1_markTaken_56 : decode cX1_markTaken 56 = .ok (.aload_n 1, 1) := by decide +kernel
theorem dX1_markTaken_57 : decode cX1_markTaken 57 = .ok (.iload_n 3, 1) := by decide +kernel
theorem dX1_markTaken_58 : decode cX1_markTaken 58 = .ok (.aaload, 1) := by decide +kernel
theorem dX1_markTaken_59 : decode cX1_markTaken 59 = .ok (.astore 4, 2) := by decide +kernel
theorem dX1_markTaken_61 : decode cX1_markTaken 61 = .ok (.iconst 0, 1) := by decide +kernel
theorem dX1_markTaken_62 : decode cX1_markTaken 62 = .ok (.istore 5, 2) := by decide +kernel
theorem dX1_markTaken_64 : decode cX1_markTaken 64 = .ok (.iload 5, 2) := by decide +kernel
theorem dX1_markTaken_66 : decode cX1_markTaken 66 = .ok (.aload 4, 2) := by decide +kernel
theorem dX1_markTaken_68 : decode cX1_markTaken 68 = .ok (.getfield 394, 3) := by decide +kernel
theorem dX1_markTaken_71 : decode cX1_markTaken 71 = .ok (.if_icmp .ge 23, 3) := by decide +kernel
theorem dX1_markTaken_74 : decode cX1_markTaken 74 = .ok (.aload_n 0, 1) := by decide +kernel
theorem dX1_markTaken_75 : decode cX1_markTaken 75 = .ok (.getfield 106, 3) := by decide +kernel
theorem dX1_markTaken_78 : decode cX1_markTaken 78 = .ok (.aload 4, 2) := by decide +kernel
theorem dX1_markTaken_80 : decode cX1_markTaken 80 = .ok (.getfield 395, 3) := by decide +kernel
theorem dX1_markTaken_83 : decode cX1_markTaken 83 = .ok (.iload 5, 2) := by decide +kernel
theorem dX1_markTaken_85 : decode cX1_markTaken 85 = .ok (.iaload, 1) := by decide +kernel
theorem dX1_markTaken_86 : decode cX1_markTaken 86 = .ok (.iconst 1, 1) := by decide +kernel
theorem dX1_markTaken_87 : decode cX1_markTaken 87 = .ok (.bastore, 1) := by decide +kernel
theorem dX1_markTaken_88 : decode cX1_markTaken 88 = .ok (.iinc 5 1, 3) := by decide +kernel
theorem dX1_markTaken_91 : decode cX1_markTaken 91 = .ok (.goto (-27), 3) := by decide +kernel
theorem dX1_markTaken_94 : decode cX1_markTaken 94 = .ok (.aload 4, 2) := by decide +kernel
theorem dX1_markTaken_96 : decode cX1_markTaken 96 = .ok (.getfield 397, 3) := by decide +kernel
theorem dX1_markTaken_99 : decode cX1_markTaken 99 = .ok (.ifCond .le 14, 3) := by decide +kernel
theorem dX1_markTaken_102 : decode cX1_markTaken 102 = .ok (.aload_n 0, 1) := by decide +kernel
theorem dX1_markTaken_103 : decode cX1_markTaken 103 = .ok (.getfield 106, 3) := by decide +kernel
theorem dX1_markTaken_106 : decode cX1_markTaken 106 = .ok (.aload 4, 2) := by decide +kernel
theorem dX1_markTaken_108 : decode cX1_markTaken 108 = .ok (.getfield 397, 3) := by decide +kernel
theorem dX1_markTaken_111 : decode cX1_markTaken 111 = .ok (.iconst 1, 1) := by decide +kernel
theorem dX1_markTaken_112 : decode cX1_markTaken 112 = .ok (.bastore, 1) := by decide +kernel
theorem dX1_markTaken_113 : decode cX1_markTaken 113 = .ok (.iinc 3 1, 3) := by decide +kernel
theorem dX1_markTaken_116 : decode cX1_markTaken 116 = .ok (.goto (-65), 3) := by decide +kernel
theorem dX1_markTaken_119 : decode cX1_markTaken 119 = .ok (.return_, 1) := by decide +kernel
set_option maxHeartbeats 4000000 in
set_option maxRecDepth 100000 in
theorem l1_X1_markTaken {G : xG} {n a b : Nat} {Q : Outcome → xS → Prop} {J : xJ} {Z : xR} {T : xT} {R : xR} {I0 : xI} {N B D Lg : Nat} (hk : KS Z T N B) (hd : KD I0 N B D Lg) (hx : X G mX1_markTaken n a b Q (itA (kMt1 B D Lg) I0 B, J, R, Z, T) 41 [(1, .ref (T.ad 0 0)), xo, xo, xo, xo, xo] []) (k : Nat) (I : xI) (hn : 3 ≤ n) :
    (k ≤ B) → (I = itA (kMt1 B D Lg) I0 k) → X G mX1_markTaken n a b Q (I, J, R, Z, T) 2 [(1, .ref (T.ad 0 0)), (1, .int (nI k)), xo, xo, xo, xo] [] := by
  induction hm : B - k using Nat.strongRecOn generalizing k I with
  | _ m_ ih =>
    intro h8 hI
    have hdi : KD I N B D Lg := by rw [hI]; exact KD.it (f := kMt1 B D Lg) (fun A k h => by unfold kMt1; exact h.u (by omega)) hd k
    have hdn := hd.n
    refine x_iload_n 3 dX1_markTaken_2 rfl rfl ?_
    refine x_aload_n 4 dX1_markTaken_3 rfl rfl ?_
    refine x_getz 7 dX1_markTaken_4 rfl fl_X1_92 (hk.l0 (by omega)) (hk.z0_0 (by omega)) ?_
    refine x_geti 10 dX1_markTaken_7 rfl fl_X1_96 (hk.l5 (by omega)) ?_
    refine x_vi (w := nI B) hdi.b ?_
    refine x_icmp_ge 41 13 dX1_markTaken_10 (by decide) rfl (fun c10 => ?_) (fun c10 => ?_)
    · skip
      have c10 : B ≤ k := (nI_leI (a := B) (b := k) (by omega) (by omega)).mp c10
      refine x_fgt [(1, .ref (T.ad 0 0)), xo, xo, xo, xo, xo] ⟨Or.inr rfl, Or.inl rfl, Or.inl rfl, Or.inl rfl, Or.inl rfl, Or.inl rfl, trivial⟩ ?_
      have e : k = B := by omega
      rw [hI, e]; exact hx
    · skip
      have c10 : ¬ (B ≤ k) := fun h => c10 ((nI_leI (a := B) (b := k) (by omega) (by omega)).mpr h)
      refine x_aload_n 14 dX1_markTaken_13 rfl rfl ?_
      refine x_getz 17 dX1_markTaken_14 rfl fl_X1_106 (hk.l0 (by omega)) (hk.z0_4 (by omega)) ?_
      refine x_iload_n 18 dX1_markTaken_17 rfl rfl ?_
      have J34 : ∀ vj_ : Int32, vj_ = b2i (¬ isDat B D Lg k) → X G mX1_markTaken n a b Q (I, J, R, Z, T) 34 [(1, .ref (T.ad 0 0)), (1, .int (nI k)), xo, xo, xo, xo] [.int vj_, .int (nI k), .ref (T.ad 22 0)] := by
        intro vj_ hv_; subst hv_
        refine x_zast 35 dX1_markTaken_34 rfl ar_22 (by decide) (by decide) (b2i_01 _) (hk.l22 (by omega)) (xb (hk.n22 (by omega)) (by omega) (by omega)) ?_
        refine x_nmI fun I1 hI1 => ?_
        refine x_iinc 38 [(1, .ref (T.ad 0 0)), (1, .int (nI (k + 1))), xo, xo, xo, xo] dX1_markTaken_35 rfl (by decide) rfl (xi_1 k) rfl ?_
        refine x_goto 2 dX1_markTaken_38 (by decide) ?_
        exact ih _ (by rw [← hm]; omega) (k + 1) I1 rfl (by omega) (by rw [hI1, hI]; rfl)
      refine x_aload_n 19 dX1_markTaken_18 rfl rfl ?_
      refine x_getz 22 dX1_markTaken_19 rfl fl_X1_92 (hk.l0 (by omega)) (hk.z0_0 (by omega)) ?_
      refine x_iload_n 23 dX1_markTaken_22 rfl rfl ?_
      refine x_callV (as := [.int (nI k)]) (rest := [.int (nI k), .ref (T.ad 22 0)]) (i := 0) (n' := n - 1) 26 dX1_markTaken_23 rfl mv_X1_391 rfl rfl (hk.l5 (by omega)) (xnh rfl) (by omega) (xst (Nat.le_of_ble_eq_true rfl)) (c_X6_isData hk hdi (by omega) (by omega) ?_)
      change X _ _ _ _ _ _ _ _ _ _
      refine x_if_ne 33 29 dX1_markTaken_26 (by decide) rfl (fun c26 => ?_) (fun c26 => ?_)
      · skip
        have c26 : isDat B D Lg k := b2i_n0.mp c26
        refine x_iconst (v := 0) 34 dX1_markTaken_33 rfl rfl ?_
        exact J34 _ (b2i_f (fun h => h c26)).symm
      · skip
        have c26 : ¬ (isDat B D Lg k) := b2i_0.mp c26
        refine x_iconst (v := 1) 30 dX1_markTaken_29 rfl rfl ?_
        refine x_goto 34 dX1_markTaken_30 (by decide) ?_
        exact J34 _ (b2i_t (c26)).symm
set_option maxHeartbeats 4000000 in
set_option maxRecDepth 100000 in
theorem i_X1_markTaken {G : xG} {n a b : Nat} {Q : Outcome → xS → Prop} {J : xJ} {Z : xR} {T : xT} {R : xR} {I0 : xI} {N B : Nat} (hk : KS Z T N B) (hw : kBw I0 B) {p m : Nat} (hp : p < N) (hmm : I0 6 p 17 = nI m ∧ m ≤ 64) (hx : X G mX1_markTaken n a b Q (itA (kMtb p) I0 m, J, R, Z, T) 94 [(1, .ref (T.ad 0 0)), (1, .ref (T.ad 23 0)), (1, .int (nI N)), (1, .int (nI p)), (1, .ref (T.ad 6 p)), xo] []) (k : Nat) (I : xI) (hn : 1 ≤ n) :
    (k ≤ m) → (I = itA (kMtb p) I0 k) → X G mX1_markTaken n a b Q (I, J, R, Z, T) 64 [(1, .ref (T.ad 0 0)), (1, .ref (T.ad 23 0)), (1, .int (nI N)), (1, .int (nI p)), (1, .ref (T.ad 6 p)), (1, .int (nI k))] [] := by
  induction hm : m - k using Nat.strongRecOn generalizing k I with
  | _ m_ ih =>
    intro h8 hI
    have hnb := hk.nb
    refine x_iload 66 dX1_markTaken_64 rfl rfl ?_
    refine x_aload 68 dX1_markTaken_66 rfl rfl ?_
    refine x_geti 71 dX1_markTaken_68 rfl fl_X1_394 (hk.l6 (by omega)) ?_
    refine x_vi (w := nI m) (by rw [hI, kMtb_c (by decide)]; exact hmm.1) ?_
    refine x_icmp_ge 94 74 dX1_markTaken_71 (by decide) rfl (fun c71 => ?_) (fun c71 => ?_)
    · skip
      have c71 : m ≤ k := (nI_leI (a := m) (b := k) (by omega) (by omega)).mp c71
      refine x_fgt [(1, .ref (T.ad 0 0)), (1, .ref (T.ad 23 0)), (1, .int (nI N)), (1, .int (nI p)), (1, .ref (T.ad 6 p)), xo] ⟨Or.inr rfl, Or.inr rfl, Or.inr rfl, Or.inr rfl, Or.inr rfl, Or.inl rfl, trivial⟩ ?_
      have e : k = m := by omega
      rw [hI, e]; exact hx
    · skip
      have c71 : ¬ (m ≤ k) := fun h => c71 ((nI_leI (a := m) (b := k) (by omega) (by omega)).mpr h)
      have hbk : iN (I 38 p k) ≤ B - 1 := by rw [hI, kMtb_c (by decide)]; exact (hw.blk p k).2
      refine x_aload_n 75 dX1_markTaken_74 rfl rfl ?_
      refine x_getz 78 dX1_markTaken_75 rfl fl_X1_106 (hk.l0 (by omega)) (hk.z0_4 (by omega)) ?_
      refine x_aload 80 dX1_markTaken_78 rfl rfl ?_
      refine x_getz 83 dX1_markTaken_80 rfl fl_X1_395 (hk.l6 (by omega)) (hk.z6_16 (by omega)) ?_
      refine x_iload 85 dX1_markTaken_83 rfl rfl ?_
      refine x_iald 86 dX1_markTaken_85 rfl ar_38 (hk.l38 (by omega)) (xb (hk.n38 (by omega)) (by omega) (by omega)) ?_
      refine x_vi (w := nI (iN (I 38 p k))) (by rw [hI, kMtb_c (by decide)]; exact (hw.blk p k).1) ?_
      refine x_iconst (v := 1) 87 dX1_markTaken_86 rfl rfl ?_
      refine x_zast 88 dX1_markTaken_87 rfl ar_22 (by decide) (by decide) (Or.inr rfl) (hk.l22 (by omega)) (xb (hk.n22 (by omega)) (by omega) (by omega)) ?_
      refine x_nmI fun I1 hI1 => ?_
      refine x_iinc 91 [(1, .ref (T.ad 0 0)), (1, .ref (T.ad 23 0)), (1, .int (nI N)), (1, .int (nI p)), (1, .ref (T.ad 6 p)), (1, .int (nI (k + 1)))] dX1_markTaken_88 rfl (by decide) rfl (xi_1 k) rfl ?_
      refine x_goto 64 dX1_markTaken_91 (by decide) ?_
      exact ih _ (by rw [← hm]; omega) (k + 1) I1 rfl (by omega) (by rw [hI1]; show _ = kMtb p (itA (kMtb p) I0 k) k; rw [← hI]; unfold kMtb; rfl)
set_option maxHeartbeats 4000000 in
set_option maxRecDepth 100000 in
theorem l2_X1_markTaken {G : xG} {n a b : Nat} {Q : Outcome → xS → Prop} {J : xJ} {Z : xR} {T : xT} {R : xR} {I0 : xI} {N B : Nat} (hk : KS Z T N B) (hw : kBw I0 B) (hq : Q (.returned none) (itA kMt2 I0 N, J, R, Z, T)) (p : Nat) (I : xI) (hn : 1 ≤ n) :
    (p ≤ N) → (I = itA kMt2 I0 p) → X G mX1_markTaken n a b Q (I, J, R, Z, T) 51 [(1, .ref (T.ad 0 0)), (1, .ref (T.ad 23 0)), (1, .int (nI N)), (1, .int (nI p)), xo, xo] [] := by
  induction hm : N - p using Nat.strongRecOn generalizing p I with
  | _ m_ ih =>
    intro h8 hI
    have hnb := hk.nb
    have hwi : kBw I B := by rw [hI]; exact kBw.c22 hw (fun c p_ q h => itA_c (f := kMt2) (fun A k p q => kMt2_c h) I0 p p_ q)
    refine x_iload_n 52 dX1_markTaken_51 rfl rfl ?_
    refine x_iload_n 53 dX1_markTaken_52 rfl rfl ?_
    refine x_icmp_ge 119 56 dX1_markTaken_53 (by decide) rfl (fun c53 => ?_) (fun c53 => ?_)
    · skip
      have c53 : N ≤ p := (nI_leI (a := N) (b := p) (by omega) (by omega)).mp c53
      refine x_vreturn dX1_markTaken_119 rfl ?_
      have e : p = N := by omega
      rw [hI, e]; exact hq
    · skip
      have c53 : ¬ (N ≤ p) := fun h => c53 ((nI_leI (a := N) (b := p) (by omega) (by omega)).mpr h)
      refine x_aload_n 57 dX1_markTaken_56 rfl rfl ?_
      refine x_iload_n 58 dX1_markTaken_57 rfl rfl ?_
      refine x_aldz 59 dX1_markTaken_58 rfl ar_23 rfl (hk.l23 (by omega)) (xb (hk.n23 (by omega)) (by omega) (by omega)) (hk.z23 (by omega)) ?_
      refine x_astore 61 [(1, .ref (T.ad 0 0)), (1, .ref (T.ad 23 0)), (1, .int (nI N)), (1, .int (nI p)), (1, .ref (T.ad 6 p)), xo] dX1_markTaken_59 rfl (by decide) rfl ?_
      refine x_iconst (v := 0) 62 dX1_markTaken_61 rfl rfl ?_
      refine x_istore 64 [(1, .ref (T.ad 0 0)), (1, .ref (T.ad 23 0)), (1, .int (nI N)), (1, .int (nI p)), (1, .ref (T.ad 6 p)), (1, .int 0)] dX1_markTaken_62 rfl (by decide) rfl ?_
      have hmn := hwi.mn p
      refine i_X1_markTaken hk hwi (p := p) (m := iN (I 6 p 17)) (by omega) ⟨hmn.1, hmn.2⟩ ?_ 0 I hn (by omega) rfl
      refine x_aload 96 dX1_markTaken_94 rfl rfl ?_
      refine x_geti 99 dX1_markTaken_96 rfl fl_X1_397 (hk.l6 (by omega)) ?_
      refine x_if_le 113 102 dX1_markTaken_99 (by decide) rfl (fun c99 => ?_) (fun c99 => ?_)
      · skip
        refine x_iinc 116 [(1, .ref (T.ad 0 0)), (1, .ref (T.ad 23 0)), (1, .int (nI N)), (1, .int (nI (p + 1))), (1, .ref (T.ad 6 p)), xo] dX1_markTaken_113 rfl (by decide) rfl (xi_1 p) rfl ?_
        refine x_goto 51 dX1_markTaken_116 (by decide) ?_
        refine x_fgt [(1, .ref (T.ad 0 0)), (1, .ref (T.ad 23 0)), (1, .int (nI N)), (1, .int (nI (p + 1))), xo, xo] ⟨Or.inr rfl, Or.inr rfl, Or.inr rfl, Or.inr rfl, Or.inl rfl, Or.inl rfl, trivial⟩ ?_
        exact ih _ (by rw [← hm]; omega) (p + 1) (itA (kMtb p) I (iN (I 6 p 17))) rfl (by omega) (by  show _ = kMt2 (itA kMt2 I0 p) p; rw [← hI]; unfold kMt2; rw [if_pos (by simpa using c99)])
      · skip
        have hin : kLn ((itA (kMtb p) I (iN (I 6 p 17))) 6 p 18) (B - 1) := by rw [kMtb_c (by decide)]; exact hwi.ind p
        have hin2 := hin.2
        refine x_aload_n 103 dX1_markTaken_102 rfl rfl ?_
        refine x_getz 106 dX1_markTaken_103 rfl fl_X1_106 (hk.l0 (by omega)) (hk.z0_4 (by omega)) ?_
        refine x_aload 108 dX1_markTaken_106 rfl rfl ?_
        refine x_geti 111 dX1_markTaken_108 rfl fl_X1_397 (hk.l6 (by omega)) ?_
        refine x_vi (w := nI (iN ((itA (kMtb p) I (iN (I 6 p 17))) 6 p 18))) hin.1 ?_
        refine x_iconst (v := 1) 112 dX1_markTaken_111 rfl rfl ?_
        refine x_zast 113 dX1_markTaken_112 rfl ar_22 (by decide) (by decide) (Or.inr rfl) (hk.l22 (by omega)) (xb (hk.n22 (by omega)) (by omega) (by omega)) ?_
        refine x_nmI fun I1 hI1 => ?_
        refine x_iinc 116 [(1, .ref (T.ad 0 0)), (1, .ref (T.ad 23 0)), (1, .int (nI N)), (1, .int (nI (p + 1))), (1, .ref (T.ad 6 p)), xo] dX1_markTaken_113 rfl (by decide) rfl (xi_1 p) rfl ?_
        refine x_goto 51 dX1_markTaken_116 (by decide) ?_
        refine x_fgt [(1, .ref (T.ad 0 0)), (1, .ref (T.ad 23 0)), (1, .int (nI N)), (1, .int (nI (p + 1))), xo, xo] ⟨Or.inr rfl, Or.inr rfl, Or.inr rfl, Or.inr rfl, Or.inl rfl, Or.inl rfl, trivial⟩ ?_
        exact ih _ (by rw [← hm]; omega) (p + 1) I1 rfl (by omega) (by rw [hI1]; show _ = kMt2 (itA kMt2 I0 p) p; rw [← hI]; unfold kMt2; rw [if_neg (by simpa using c99)])
set_option maxHeartbeats 4000000 in
set_option maxRecDepth 100000 in
theorem c_X1_markTaken {G : xG} {n : Nat} {Q : Outcome → xS → Prop} {I : xI} {J : xJ} {R Z : xR} {T : xT} {N B D Lg : Nat} (hk : KS Z T N B) (hd : KD I N B D Lg) (hw : kBw I B) (hn : 3 ≤ n) (hq : Q (.returned none) (kMkT N B D Lg I, J, R, Z, T)) : xCall G mX1_markTaken n [.ref (T.ad 0 0)] (I, J, R, Z, T) Q := by
  refine x_met (L0 := [(1, .ref (T.ad 0 0)), xo, xo, xo, xo, xo]) (by decide +kernel) rfl ⟨Nat.le_of_ble_eq_true rfl, rfl⟩ ?_
  have hnb := hk.nb
  unfold kMkT at hq
  refine x_iconst (v := 0) 1 dX1_markTaken_0 rfl rfl ?_
  refine x_istore_n 2 [(1, .ref (T.ad 0 0)), (1, .int 0), xo, xo, xo, xo] dX1_markTaken_1 rfl (by decide) rfl ?_
  refine l1_X1_markTaken hk hd ?_ 0 I (by omega) (by omega) rfl
  refine x_aload_n 42 dX1_markTaken_41 rfl rfl ?_
  refine x_getz 45 dX1_markTaken_42 rfl fl_X1_115 (hk.l0 (by omega)) (hk.z0_5 (by omega)) ?_
  refine x_astore_n 46 [(1, .ref (T.ad 0 0)), (1, .ref (T.ad 23 0)), xo, xo, xo, xo] dX1_markTaken_45 rfl (by decide) rfl ?_
  refine x_aload_n 47 dX1_markTaken_46 rfl rfl ?_
  refine x_alen 48 dX1_markTaken_47 rfl ar_23 (hk.l23 (by omega)) ?_
  refine x_vi (congrArg nI (hk.n23 (by omega))) ?_
  refine x_istore_n 49 [(1, .ref (T.ad 0 0)), (1, .ref (T.ad 23 0)), (1, .int (nI N)), xo, xo, xo] dX1_markTaken_48 rfl (by decide) rfl ?_
  refine x_iconst (v := 0) 50 dX1_markTaken_49 rfl rfl ?_
  refine x_istore_n 51 [(1, .ref (T.ad 0 0)), (1, .ref (T.ad 23 0)), (1, .int (nI N)), (1, .int 0), xo, xo] dX1_markTaken_50 rfl (by decide) rfl ?_
  exact l2_X1_markTaken hk (kBw.c22 hw (fun c p q h => itA_c (f := kMt1 B D Lg) (fun A k p q => by unfold kMt1; exact xu_c h) I B p q)) hq 0 _ (by omega) (by omega) rfl
