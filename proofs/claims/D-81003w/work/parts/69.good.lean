set_option maxRecDepth 100000
/-! which calls are good -/
def lF (l : List (Nat × Nat)) (t : Nat) : Nat := (l.getD t (0, 0)).1
def lG (l : List (Nat × Nat)) (t : Nat) : Nat := (l.getD t (0, 0)).2
def pOk (e : Nat) (p : Nat × Nat) : Prop := p.1 + p.2 ≤ e ∧ 1 ≤ p.2 ∧ p.2 ≤ 14
theorem pPar_ok {f : Nat → Int32} {e : Nat} : ∀ (u k : Nat) (l l' : List (Nat × Nat)), pPar f e u k l = some l' → (∀ p ∈ l, pOk e p) → l.length ≤ 12 → (∀ p ∈ l', pOk e p) ∧ l'.length ≤ 12
  | 0, _, _, _, h, _, _ => by cases h
  | u + 1, k, l, l', h, h1, h2 => by
    by_cases c : e ≤ k
    · rw [pPar_e c] at h; cases h; exact ⟨h1, h2⟩
    · rw [pPar_s c] at h
      have hs := pSeg_le (f := f) (e := e) (k := k) (by omega)
      generalize pSeg f e k = g at h hs
      split at h
      · cases h
      · split at h
        · split at h
          · cases h
          · next hn =>
            refine pPar_ok u _ _ l' h (fun p hp => ?_) (by rw [List.length_append]; show l.length + 1 ≤ 12; omega)
            rcases List.mem_append.mp hp with q | q
            · exact h1 p q
            · rw [List.mem_singleton.mp q]; exact ⟨by show k + (g - k) ≤ e; omega, by show 1 ≤ g - k; omega, by show g - k ≤ 14; omega⟩
        · exact pPar_ok u _ _ l' h h1 h2
theorem pParse_ok {f : Nat → Int32} {s e : Nat} {l : List (Nat × Nat)} (h : pParse f s e = some l) : (∀ p ∈ l, pOk e p) ∧ l.length ≤ 12 := by
  unfold pParse at h
  split at h
  · cases h
  · exact pPar_ok _ _ _ l h (fun p hp => nomatch hp) (Nat.zero_le _)
theorem PS.of {I : xI} {i e : Nat} {l : List (Nat × Nat)} (h : pHold I i l) (ho : (∀ p ∈ l, pOk e p) ∧ l.length ≤ 12) (he : e ≤ 256) : PS I i l.length (lF l) (lG l) := by
  refine ⟨h.1, ho.2, fun t ht => ?_⟩
  have e1 : l[t]? = some l[t] := List.getElem?_eq_getElem ht
  have h2 := h.2 t _ e1
  have h3 := ho.1 l[t] (List.getElem_mem ht)
  have eF : lF l t = l[t].1 := by unfold lF; rw [List.getD_eq_getElem?_getD, e1]; rfl
  have eG : lG l t = l[t].2 := by unfold lG; rw [List.getD_eq_getElem?_getD, e1]; rfl
  rw [eF, eG]
  exact ⟨h2.1, h2.2, by have := h3.1; omega, h3.2.1, h3.2.2⟩
/-- nothing but the paths' own rows is touched -/
def pF2 (I I' : xI) : Prop := ∀ c j k, ¬ (c = 4 ∧ (k = 2 ∨ k = 3)) → ¬ (c = 33 ∨ c = 34) → I' c j k = I c j k
theorem pFr.f2 {i : Nat} {A B : xI} (h : pFr i A B) : pF2 A B := fun c j k a b => h c j k (fun e => a ⟨e.1, e.2.2⟩) (fun e => b e.1)
theorem pF2.trans {A B D : xI} (h : pF2 A B) (g : pF2 B D) : pF2 A D := fun c j k a b => (g c j k a b).trans (h c j k a b)
theorem pF2.rfl {A : xI} : pF2 A A := fun _ _ _ _ _ => by rfl
theorem pF2.tp {A B : xI} (h : pF2 A B) : B 27 0 = A 27 0 := by funext j; exact h 27 0 j (by omega) (by omega)
theorem PS.pfr {A B : xI} {i j n : Nat} {fr lg : Nat → Nat} (h : PS A i n fr lg) (g : pFr j A B) (hij : i ≠ j) : PS B i n fr lg :=
  ⟨(g 4 i 2 (fun e => hij e.2.1) (by omega)).trans h.1, h.2.1, fun t ht => ⟨(g 33 i t (by omega) (fun e => hij e.2)).trans (h.2.2 t ht).1, (g 34 i t (by omega) (fun e => hij e.2)).trans (h.2.2 t ht).2.1, (h.2.2 t ht).2.2⟩⟩
/-- path i has been read -/
def pGot (I I' : xI) (i s e : Nat) (l : List (Nat × Nat)) : Prop := pParse (I 27 0) s e = some l ∧ PS I' i l.length (lF l) (lG l) ∧ I' 4 i 3 = b2i (I 27 0 s = 47)
noncomputable def zK (f : Nat → Int32) (e : Nat) : Nat := (fst0 (fun k => f k = 0) 0 e).getD e
theorem zK_e {f : Nat → Int32} {e k : Nat} (h8 : k ≤ e) (hv : ∀ j, j < k → ¬ f j = 0) (hk : k = e ∨ f k = 0) : zK f e = k := by
  unfold zK
  by_cases q : k = e
  · subst q; rw [fst0_none k 0 (fun j _ hj => hv j (by omega))]; rfl
  · rw [fst0_some e 0 k (by omega) (by omega) (hk.resolve_left q) (fun j _ hj => hv j hj)]; rfl
def kTwoP (f : Nat → Int32) (e : Nat) (l l2 : List (Nat × Nat)) : Prop := zK f e < e ∧ pParse f 0 (zK f e) = some l ∧ pParse f (zK f e + 1) e = some l2
def kGot2 (I I' : xI) (e : Nat) (l l2 : List (Nat × Nat)) : Prop := zK (I 27 0) e < e ∧ pGot I I' 0 0 (zK (I 27 0) e) l ∧ pGot I I' 1 (zK (I 27 0) e + 1) e l2
theorem dX1_areTwo_0 : decode cX1_areTwo 0 = .ok (.iconst 0, 1) := by decide +kernel
theorem dX1_areTwo_1 : decode cX1_areTwo 1 = .ok (.istore_n 2, 1) := by decide +kernel
theorem dX1_areTwo_2 : decode cX1_areTwo 2 = .ok (.iload_n 2, 1) := by decide +kernel
theorem dX1_areTwo_3 : decode cX1_areTwo 3 = .ok (.iload_n 1, 1) := by decide +kernel
theorem dX1_areTwo_4 : decode cX1_areTwo 4 = .ok (.if_icmp .ge 18, 3) := by decide +kernel
theorem dX1_areTwo_7 : decode cX1_areTwo 7 = .ok (.aload_n 0, 1) := by decide +kernel
theorem dX1_areTwo_8 : decode cX1_areTwo 8 = .ok (.getfield 57, 3) := by decide +kernel
theorem dX1_areTwo_11 : decode cX1_areTwo 11 = .ok (.iload_n 2, 1) := by decide +kernel
theorem dX1_areTwo_12 : decode cX1_areTwo 12 = .ok (.baload, 1) := by decide +kernel
theorem dX1_areTwo_13 : decode cX1_areTwo 13 = .ok (.ifCond .eq 9, 3) := by decide +kernel
theorem dX1_areTwo_16 : decode cX1_areTwo 16 = .ok (.iinc 2 1, 3) := by decide +kernel
theorem dX1_areTwo_19 : decode cX1_areTwo 19 = .ok (.goto (-17), 3) := by decide +kernel
theorem dX1_areTwo_22 : decode cX1_areTwo 22 = .ok (.iload_n 2, 1) := by decide +kernel
theorem dX1_areTwo_23 : decode cX1_areTwo 23 = .ok (.iload_n 1, 1) := by decide +kernel
theorem dX1_areTwo_24 : decode cX1_areTwo 24 = .ok (.if_icmp .ge 33, 3) := by decide +kernel
theorem dX1_areTwo_27 : decode cX1_areTwo 27 = .ok (.aload_n 0, 1) := by decide +kernel
theorem dX1_areTwo_28 : decode cX1_areTwo 28 = .ok (.getfield 76, 3) := by decide +kernel
theorem dX1_areTwo_31 : decode cX1_areTwo 31 = .ok (.iconst 0, 1) := by decide +kernel
theorem dX1_areTwo_32 : decode cX1_areTwo 32 = .ok (.iload_n 2, 1) := by decide +kernel
theorem dX1_areTwo_33 : decode cX1_areTwo 33 = .ok (.invokevirtual 517, 3) := by decide +kernel
theorem dX1_areTwo_36 : decode cX1_areTwo 36 = .ok (.ifCond .eq 21, 3) := by decide +kernel
theorem dX1_areTwo_39 : decode cX1_areTwo 39 = .ok (.aload_n 0, 1) := by decide +kernel
theorem dX1_areTwo_40 : decode cX1_areTwo 40 = .ok (.getfield 80, 3) := by decide +kernel
theorem dX1_areTwo_43 : decode cX1_areTwo 43 = .ok (.iload_n 2, 1) := by decide +kernel
theorem dX1_areTwo_44 : decode cX1_areTwo 44 = .ok (.iconst 1, 1) := by decide +kernel
theorem dX1_areTwo_45 : decode cX1_areTwo 45 = .ok (.iadd, 1) := by decide +kernel
theorem dX1_areTwo_46 : decode cX1_areTwo 46 = .ok (.iload_n 1, 1) := by decide +kernel
theorem dX1_areTwo_47 : decode cX1_areTwo 47 = .ok (.invokevirtual 517, 3) := by decide +kernel
theorem dX1_areTwo_50 : decode cX1_areTwo 50 = .ok (.ifCond .eq 7, 3) := by decide +kernel
theorem dX1_areTwo_53 : decode cX1_areTwo 53 = .ok (.iconst 1, 1) := by decide +kernel
theorem dX1_areTwo_54 : decode cX1_areTwo 54 = .ok (.goto 4, 3) := by decide +kernel
theorem dX1_areTwo_57 : decode cX1_areTwo 57 = .ok (.iconst 0, 1) := by decide +kernel
theorem dX1_areTwo_58 : decode cX1_areTwo 58 = .ok (.ireturn, 1) := by decide +kernel
set_option maxHeartbeats 400000 in
set_option maxRecDepth 100000 in
theorem l_X1_areTwo {G : xG} {n a b : Nat} {Q : Outcome → xS → Prop} {J : xJ} {Z : xR} {T : xT} {R : xR} {I : xI} {N B : Nat} (hk : KS Z T N B) {e : Nat} (he : e ≤ 256) (hq0 : (¬ ∃ l l2, kTwoP (I 27 0) e l l2) → ∀ I' : xI, pF2 I I' → Q (.returned (some (.int 0))) (I', J, R, Z, T)) (hq1 : ∀ l l2 I', pF2 I I' → kGot2 I I' e l l2 → Q (.returned (some (.int 1))) (I', J, R, Z, T)) (k : Nat) (hn : 3 ≤ n) :
    (k ≤ e) → (∀ j, j < k → ¬ I 27 0 j = 0) → X G mX1_areTwo n a b Q (I, J, R, Z, T) 2 [(1, .ref (T.ad 0 0)), (1, .int (nI e)), (1, .int (nI k))] [] := by
  induction hm : e - k using Nat.strongRecOn generalizing k with
  | _ m_ ih =>
    intro h8 hv
    refine x_iload_n 3 dX1_areTwo_2 rfl rfl ?_
    refine x_iload_n 4 dX1_areTwo_3 rfl rfl ?_
    refine x_icmp_ge 22 7 dX1_areTwo_4 (by decide) rfl (fun c4 => ?_) (fun c4 => ?_)
    · skip
      have c4 : e ≤ k := (nI_leI (a := e) (b := k) (by omega) (by omega)).mp c4
      have ez := zK_e (f := I 27 0) (e := e) h8 hv (Or.inl (by omega))
      refine x_iload_n 23 dX1_areTwo_22 rfl rfl ?_
      refine x_iload_n 24 dX1_areTwo_23 rfl rfl ?_
      refine x_icmp_ge 57 27 dX1_areTwo_24 (by decide) rfl (fun c24 => ?_) (fun c24 => ?_)
      · skip
        have c24 : e ≤ k := (nI_leI (a := e) (b := k) (by omega) (by omega)).mp c24
        refine x_iconst (v := 0) 58 dX1_areTwo_57 rfl rfl ?_
        refine x_zreturn dX1_areTwo_58 rfl (Or.inl rfl) ?_
        exact hq0 (fun ⟨l, l2, h, _⟩ => by rw [ez] at h; omega) I pF2.rfl
      · skip
        have c24 : ¬ (e ≤ k) := fun h => c24 ((nI_leI (a := e) (b := k) (by omega) (by omega)).mpr h)
        refine x_aload_n 28 dX1_areTwo_27 rfl rfl ?_
        refine x_getz 31 dX1_areTwo_28 rfl fl_X1_76 (hk.l0 (by omega)) (hk.z0_23 (by omega)) ?_
        refine x_iconst (v := 0) 32 dX1_areTwo_31 rfl rfl ?_
        refine x_iload_n 33 dX1_areTwo_32 rfl rfl ?_
        refine x_callV (as := [.int (nI 0), .int (nI k)]) (rest := []) (i := 0) (n' := n - 1) 36 dX1_areTwo_33 rfl mv_X1_517 rfl rfl (hk.l4 (by omega)) (xnh rfl) (by omega) (xst (Nat.le_of_ble_eq_true rfl)) (c_X5_read (i := 0) (s := 0) (e := k) hk (by omega) (by omega) (by omega) (by omega) ?_ ?_)
        · skip
          intro hpn0 Ia hFIa
          change X _ _ _ _ _ _ _ _ _ _
          refine x_if_eq 57 39 dX1_areTwo_36 (by decide) rfl (fun c36 => ?_) (fun c36 => ?_)
          · skip
            refine x_iconst (v := 0) 58 dX1_areTwo_57 rfl rfl ?_
            refine x_zreturn dX1_areTwo_58 rfl (Or.inl rfl) ?_
            exact hq0 (fun ⟨l, l2, _, h, _⟩ => by rw [ez, hpn0] at h; cases h) Ia hFIa.f2
          · skip
            exfalso; revert c36; decide
        · skip
          intro l0 hps0 hll0 Ia hFIa hHIa h3Ia
          have hP0 := PS.of hHIa (pParse_ok hps0) (by omega)
          change X _ _ _ _ _ _ _ _ _ _
          refine x_if_eq 57 39 dX1_areTwo_36 (by decide) rfl (fun c36 => ?_) (fun c36 => ?_)
          · skip
            exfalso; revert c36; decide
          · skip
            refine x_aload_n 40 dX1_areTwo_39 rfl rfl ?_
            refine x_getz 43 dX1_areTwo_40 rfl fl_X1_80 (hk.l0 (by omega)) (hk.z0_24 (by omega)) ?_
            refine x_iload_n 44 dX1_areTwo_43 rfl rfl ?_
            refine x_iconst (v := 1) 45 dX1_areTwo_44 rfl rfl ?_
            refine x_iaddn k 1 46 dX1_areTwo_45 rfl rfl rfl ?_
            refine x_iload_n 47 dX1_areTwo_46 rfl rfl ?_
            refine x_callV (as := [.int (nI (k + 1)), .int (nI e)]) (rest := []) (i := 1) (n' := n - 1) 50 dX1_areTwo_47 rfl mv_X1_517 rfl rfl (hk.l4 (by omega)) (xnh rfl) (by omega) (xst (Nat.le_of_ble_eq_true rfl)) (c_X5_read (i := 1) (s := k + 1) (e := e) hk (by omega) (by omega) (by omega) (by omega) ?_ ?_)
            · skip
              intro hpn1 Ib hFIb
              change X _ _ _ _ _ _ _ _ _ _
              refine x_if_eq 57 53 dX1_areTwo_50 (by decide) rfl (fun c50 => ?_) (fun c50 => ?_)
              · skip
                refine x_iconst (v := 0) 58 dX1_areTwo_57 rfl rfl ?_
                refine x_zreturn dX1_areTwo_58 rfl (Or.inl rfl) ?_
                exact hq0 (fun ⟨l, l2, _, _, h⟩ => by rw [ez, ← hFIa.tp, hpn1] at h; cases h) Ib (hFIa.f2.trans hFIb.f2)
              · skip
                exfalso; revert c50; decide
            · skip
              intro l1 hps1 hll1 Ib hFIb hHIb h3Ib
              have hP1 := PS.of hHIb (pParse_ok hps1) (by omega)
              change X _ _ _ _ _ _ _ _ _ _
              refine x_if_eq 57 53 dX1_areTwo_50 (by decide) rfl (fun c50 => ?_) (fun c50 => ?_)
              · skip
                exfalso; revert c50; decide
              · skip
                refine x_iconst (v := 1) 54 dX1_areTwo_53 rfl rfl ?_
                refine x_goto 58 dX1_areTwo_54 (by decide) ?_
                refine x_zreturn dX1_areTwo_58 rfl (Or.inr rfl) ?_
                exact hq1 l0 l1 Ib (hFIa.f2.trans hFIb.f2) ⟨by rw [ez]; omega, ⟨by rw [ez]; exact hps0, hP0.pfr hFIb (by decide), (hFIb 4 0 3 (by omega) (by omega)).trans h3Ia⟩, ⟨by rw [ez, ← hFIa.tp]; exact hps1, hP1, by rw [ez, ← hFIa.tp]; exact h3Ib⟩⟩
    · skip
      have c4 : ¬ (e ≤ k) := fun h => c4 ((nI_leI (a := e) (b := k) (by omega) (by omega)).mpr h)
      refine x_aload_n 8 dX1_areTwo_7 rfl rfl ?_
      refine x_getz 11 dX1_areTwo_8 rfl fl_X1_57 (hk.l0 (by omega)) (hk.z0_11 (by omega)) ?_
      refine x_iload_n 12 dX1_areTwo_11 rfl rfl ?_
      refine x_bald 13 dX1_areTwo_12 rfl ar_27 (hk.l27 (by omega)) (xb (hk.n27 (by omega)) (by omega) (by omega)) ?_
      refine x_if_eq 22 16 dX1_areTwo_13 (by decide) rfl (fun c13 => ?_) (fun c13 => ?_)
      · skip
        have ez := zK_e (f := I 27 0) (e := e) h8 hv (Or.inr c13)
        refine x_iload_n 23 dX1_areTwo_22 rfl rfl ?_
        refine x_iload_n 24 dX1_areTwo_23 rfl rfl ?_
        refine x_icmp_ge 57 27 dX1_areTwo_24 (by decide) rfl (fun c24 => ?_) (fun c24 => ?_)
        · skip
          have c24 : e ≤ k := (nI_leI (a := e) (b := k) (by omega) (by omega)).mp c24
          refine x_iconst (v := 0) 58 dX1_areTwo_57 rfl rfl ?_
          refine x_zreturn dX1_areTwo_58 rfl (Or.inl rfl) ?_
          exact hq0 (fun ⟨l, l2, h, _⟩ => by rw [ez] at h; omega) I pF2.rfl
        · skip
          have c24 : ¬ (e ≤ k) := fun h => c24 ((nI_leI (a := e) (b := k) (by omega) (by omega)).mpr h)
          refine x_aload_n 28 dX1_areTwo_27 rfl rfl ?_
          refine x_getz 31 dX1_areTwo_28 rfl fl_X1_76 (hk.l0 (by omega)) (hk.z0_23 (by omega)) ?_
          refine x_iconst (v := 0) 32 dX1_areTwo_31 rfl rfl ?_
          refine x_iload_n 33 dX1_areTwo_32 rfl rfl ?_
          refine x_callV (as := [.int (nI 0), .int (nI k)]) (rest := []) (i := 0) (n' := n - 1) 36 dX1_areTwo_33 rfl mv_X1_517 rfl rfl (hk.l4 (by omega)) (xnh rfl) (by omega) (xst (Nat.le_of_ble_eq_true rfl)) (c_X5_read (i := 0) (s := 0) (e := k) hk (by omega) (by omega) (by omega) (by omega) ?_ ?_)
          · skip
            intro hpn0 Ia hFIa
            change X _ _ _ _ _ _ _ _ _ _
            refine x_if_eq 57 39 dX1_areTwo_36 (by decide) rfl (fun c36 => ?_) (fun c36 => ?_)
            · skip
              refine x_iconst (v := 0) 58 dX1_areTwo_57 rfl rfl ?_
              refine x_zreturn dX1_areTwo_58 rfl (Or.inl rfl) ?_
              exact hq0 (fun ⟨l, l2, _, h, _⟩ => by rw [ez, hpn0] at h; cases h) Ia hFIa.f2
            · skip
              exfalso; revert c36; decide
          · skip
            intro l0 hps0 hll0 Ia hFIa hHIa h3Ia
            have hP0 := PS.of hHIa (pParse_ok hps0) (by omega)
            change X _ _ _ _ _ _ _ _ _ _
            refine x_if_eq 57 39 dX1_areTwo_36 (by decide) rfl (fun c36 => ?_) (fun c36 => ?_)
            · skip
              exfalso; revert c36; decide
            · skip
              refine x_aload_n 40 dX1_areTwo_39 rfl rfl ?_
              refine x_getz 43 dX1_areTwo_40 rfl fl_X1_80 (hk.l0 (by omega)) (hk.z0_24 (by omega)) ?_
              refine x_iload_n 44 dX1_areTwo_43 rfl rfl ?_
              refine x_iconst (v := 1) 45 dX1_areTwo_44 rfl rfl ?_
              refine x_iaddn k 1 46 dX1_areTwo_45 rfl rfl rfl ?_
              refine x_iload_n 47 dX1_areTwo_46 rfl rfl ?_
              refine x_callV (as := [.int (nI (k + 1)), .int (nI e)]) (rest := []) (i := 1) (n' := n - 1) 50 dX1_areTwo_47 rfl mv_X1_517 rfl rfl (hk.l4 (by omega)) (xnh rfl) (by omega) (xst (Nat.le_of_ble_eq_true rfl)) (c_X5_read (i := 1) (s := k + 1) (e := e) hk (by omega) (by omega) (by omega) (by omega) ?_ ?_)
              · skip
                intro hpn1 Ib hFIb
                change X _ _ _ _ _ _ _ _ _ _
                refine x_if_eq 57 53 dX1_areTwo_50 (by decide) rfl (fun c50 => ?_) (fun c50 => ?_)
                · skip
                  refine x_iconst (v := 0) 58 dX1_areTwo_57 rfl rfl ?_
                  refine x_zreturn dX1_areTwo_58 rfl (Or.inl rfl) ?_
                  exact hq0 (fun ⟨l, l2, _, _, h⟩ => by rw [ez, ← hFIa.tp, hpn1] at h; cases h) Ib (hFIa.f2.trans hFIb.f2)
                · skip
                  exfalso; revert c50; decide
              · skip
                intro l1 hps1 hll1 Ib hFIb hHIb h3Ib
                have hP1 := PS.of hHIb (pParse_ok hps1) (by omega)
                change X _ _ _ _ _ _ _ _ _ _
                refine x_if_eq 57 53 dX1_areTwo_50 (by decide) rfl (fun c50 => ?_) (fun c50 => ?_)
                · skip
                  exfalso; revert c50; decide
                · skip
                  refine x_iconst (v := 1) 54 dX1_areTwo_53 rfl rfl ?_
                  refine x_goto 58 dX1_areTwo_54 (by decide) ?_
                  refine x_zreturn dX1_areTwo_58 rfl (Or.inr rfl) ?_
                  exact hq1 l0 l1 Ib (hFIa.f2.trans hFIb.f2) ⟨by rw [ez]; omega, ⟨by rw [ez]; exact hps0, hP0.pfr hFIb (by decide), (hFIb 4 0 3 (by omega) (by omega)).trans h3Ia⟩, ⟨by rw [ez, ← hFIa.tp]; exact hps1, hP1, by rw [ez, ← hFIa.tp]; exact h3Ib⟩⟩
      · skip
        refine x_iinc 19 [(1, .ref (T.ad 0 0)), (1, .int (nI e)), (1, .int (nI (k + 1)))] dX1_areTwo_16 rfl (by decide) rfl (xi_1 k) rfl ?_
        refine x_goto 2 dX1_areTwo_19 (by decide) ?_
        exact ih _ (by rw [← hm]; omega) (k + 1) rfl (by omega) (lt_succ_of (P := fun j => ¬ I 27 0 j = 0) hv c13)
set_option maxHeartbeats 400000 in
set_option maxRecDepth 100000 in
theorem c_X1_areTwo {G : xG} {n : Nat} {Q : Outcome → xS → Prop} {I : xI} {J : xJ} {R Z : xR} {T : xT} {N B : Nat} (hk : KS Z T N B) {e : Nat} (he : e ≤ 256) (hn : 3 ≤ n) (hq0 : (¬ ∃ l l2, kTwoP (I 27 0) e l l2) → ∀ I' : xI, pF2 I I' → Q (.returned (some (.int 0))) (I', J, R, Z, T)) (hq1 : ∀ l l2 I', pF2 I I' → kGot2 I I' e l l2 → Q (.returned (some (.int 1))) (I', J, R, Z, T)) : xCall G mX1_areTwo n [.ref (T.ad 0 0), .int (nI e)] (I, J, R, Z, T) Q := by
  refine x_met (L0 := [(1, .ref (T.ad 0 0)), (1, .int (nI e)), xo]) (by decide +kernel) rfl ⟨Nat.le_of_ble_eq_true rfl, rfl⟩ ?_
  refine x_iconst (v := 0) 1 dX1_areTwo_0 rfl rfl ?_
  refine x_istore_n 2 [(1, .ref (T.ad 0 0)), (1, .int (nI e)), (1, .int 0)] dX1_areTwo_1 rfl (by decide) rfl ?_
  exact l_X1_areTwo hk he hq0 hq1 0 hn (by omega) (fun j hj => absurd hj (by omega))
theorem dX1_isGood_0 : decode cX1_isGood 0 = .ok (.iload_n 1, 1) := by decide +kernel
theorem dX1_isGood_1 : decode cX1_isGood 1 = .ok (.tableswitch 361 0 19 #[95, 156, 164, 156, 191, 191, 156, 361, 218, 218, 218, 247, 247, 288, 316, 316, 361, 327, 361, 335], 95) := by decide +kernel
theorem dX1_isGood_96 : decode cX1_isGood 96 = .ok (.iload_n 2, 1) := by decide +kernel
theorem dX1_isGood_97 : decode cX1_isGood 97 = .ok (.iconst 0, 1) := by decide +kernel
theorem dX1_isGood_98 : decode cX1_isGood 98 = .ok (.bipush 63, 2) := by decide +kernel
theorem dX1_isGood_100 : decode cX1_isGood 100 = .ok (.invokestatic 211, 3) := by decide +kernel
theorem dX1_isGood_103 : decode cX1_isGood 103 = .ok (.ifCond .eq 52, 3) := by decide +kernel
theorem dX1_isGood_106 : decode cX1_isGood 106 = .ok (.iload_n 2, 1) := by decide +kernel
theorem dX1_isGood_107 : decode cX1_isGood 107 = .ok (.iconst 3, 1) := by decide +kernel
theorem dX1_isGood_108 : decode cX1_isGood 108 = .ok (.iand, 1) := by decide +kernel
theorem dX1_isGood_109 : decode cX1_isGood 109 = .ok (.ifCond .le 46, 3) := by decide +kernel
theorem dX1_isGood_112 : decode cX1_isGood 112 = .ok (.iload_n 2, 1) := by decide +kernel
theorem dX1_isGood_113 : decode cX1_isGood 113 = .ok (.bipush 8, 2) := by decide +kernel
theorem dX1_isGood_115 : decode cX1_isGood 115 = .ok (.iand, 1) := by decide +kernel
theorem dX1_isGood_116 : decode cX1_isGood 116 = .ok (.ifCond .eq 9, 3) := by decide +kernel
theorem dX1_isGood_119 : decode cX1_isGood 119 = .ok (.iload_n 2, 1) := by decide +kernel
theorem dX1_isGood_120 : decode cX1_isGood 120 = .ok (.iconst 4, 1) := by decide +kernel
theorem dX1_isGood_121 : decode cX1_isGood 121 = .ok (.iand, 1) := by decide +kernel
theorem dX1_isGood_122 : decode cX1_isGood 122 = .ok (.ifCond .le 33, 3) := by decide +kernel
theorem dX1_isGood_125 : decode cX1_isGood 125 = .ok (.iload_n 2, 1) := by decide +kernel
theorem dX1_isGood_126 : decode cX1_isGood 126 = .ok (.bipush 48, 2) := by decide +kernel
theorem dX1_isGood_128 : decode cX1_isGood 128 = .ok (.iand, 1) := by decide +kernel
theorem dX1_isGood_129 : decode cX1_isGood 129 = .ok (.ifCond .eq 9, 3) := by decide +kernel
theorem dX1_isGood_132 : decode cX1_isGood 132 = .ok (.iload_n 2, 1) := by decide +kernel
theorem dX1_isGood_133 : decode cX1_isGood 133 = .ok (.iconst 2, 1) := by decide +kernel
theorem dX1_isGood_134 : decode cX1_isGood 134 = .ok (.iand, 1) := by decide +kernel
theorem dX1_isGood_135 : decode cX1_isGood 135 = .ok (.ifCond .le 20, 3) := by decide +kernel
theorem dX1_isGood_138 : decode cX1_isGood 138 = .ok (.aload_n 0, 1) := by decide +kernel
theorem dX1_isGood_139 : decode cX1_isGood 139 = .ok (.getfield 76, 3) := by decide +kernel
theorem dX1_isGood_142 : decode cX1_isGood 142 = .ok (.iconst 0, 1) := by decide +kernel
theorem dX1_isGood_143 : decode cX1_isGood 143 = .ok (.iload 4, 2) := by decide +kernel
theorem dX1_isGood_145 : decode cX1_isGood 145 = .ok (.invokevirtual 517, 3) := by decide +kernel
theorem dX1_isGood_148 : decode cX1_isGood 148 = .ok (.ifCond .eq 7, 3) := by decide +kernel
theorem dX1_isGood_151 : decode cX1_isGood 151 = .ok (.iconst 1, 1) := by decide +kernel
theorem dX1_isGood_152 : decode cX1_isGood 152 = .ok (.goto 4, 3) := by decide +kernel
theorem dX1_isGood_155 : decode cX1_isGood 155 = .ok (.iconst 0, 1) := by decide +kernel
theorem dX1_isGood_156 : decode cX1_isGood 156 = .ok (.ireturn, 1) := by decide +kernel
theorem dX1_isGood_157 : decode cX1_isGood 157 = .ok (.iload_n 2, 1) := by decide +kernel
theorem dX1_isGood_158 : decode cX1_isGood 158 = .ok (.iconst 0, 1) := by decide +kernel
theorem dX1_isGood_159 : decode cX1_isGood 159 = .ok (.bipush 7, 2) := by decide +kernel
theorem dX1_isGood_161 : decode cX1_isGood 161 = .ok (.invokestatic 211, 3) := by decide +kernel
theorem dX1_isGood_164 : decode cX1_isGood 164 = .ok (.ireturn, 1) := by decide +kernel
theorem dX1_isGood_165 : decode cX1_isGood 165 = .ok (.iload_n 2, 1) := by decide +kernel
theorem dX1_isGood_166 : decode cX1_isGood 166 = .ok (.iconst 0, 1) := by decide +kernel
theorem dX1_isGood_167 : decode cX1_isGood 167 = .ok (.bipush 7, 2) := by decide +kernel
theorem dX1_isGood_169 : decode cX1_isGood 169 = .ok (.invokestatic 211, 3) := by decide +kernel
theorem dX1_isGood_172 : decode cX1_isGood 172 = .ok (.ifCond .eq 18, 3) := by decide +kernel
theorem dX1_isGood_175 : decode cX1_isGood 175 = .ok (.iload_n 3, 1) := by decide +kernel
theorem dX1_isGood_176 : decode cX1_isGood 176 = .ok (.iconst 0, 1) := by decide +kernel
theorem dX1_isGood_177 : decode cX1_isGood 177 = .ok (.sipush 200, 3) := by decide +kernel
theorem dX1_isGood_180 : decode cX1_isGood 180 = .ok (.invokestatic 211, 3) := by decide +kernel
theorem dX1_isGood_183 : decode cX1_isGood 183 = .ok (.ifCond .eq 7, 3) := by decide +kernel
theorem dX1_isGood_186 : decode cX1_isGood 186 = .ok (.iconst 1, 1) := by decide +kernel
theorem dX1_isGood_187 : decode cX1_isGood 187 = .ok (.goto 4, 3) := by decide +kernel
theorem dX1_isGood_190 : decode cX1_isGood 190 = .ok (.iconst 0, 1) := by decide +kernel
theorem dX1_isGood_191 : decode cX1_isGood 191 = .ok (.ireturn, 1) := by decide +kernel
theorem dX1_isGood_192 : decode cX1_isGood 192 = .ok (.iload_n 2, 1) := by decide +kernel
theorem dX1_isGood_193 : decode cX1_isGood 193 = .ok (.iconst 0, 1) := by decide +kernel
theorem dX1_isGood_194 : decode cX1_isGood 194 = .ok (.bipush 7, 2) := by decide +kernel
theorem dX1_isGood_196 : decode cX1_isGood 196 = .ok (.invokestatic 211, 3) := by decide +kernel
theorem dX1_isGood_199 : decode cX1_isGood 199 = .ok (.ifCond .eq 18, 3) := by decide +kernel
theorem dX1_isGood_202 : decode cX1_isGood 202 = .ok (.iload_n 3, 1) := by decide +kernel
theorem dX1_isGood_203 : decode cX1_isGood 203 = .ok (.iconst 0, 1) := by decide +kernel
theorem dX1_isGood_204 : decode cX1_isGood 204 = .ok (.sipush 8192, 3) := by decide +kernel
theorem dX1_isGood_207 : decode cX1_isGood 207 = .ok (.invokestatic 211, 3) := by decide +kernel
theorem dX1_isGood_210 : decode cX1_isGood 210 = .ok (.ifCond .eq 7, 3) := by decide +kernel
theorem dX1_isGood_213 : decode cX1_isGood 213 = .ok (.iconst 1, 1) := by decide +kernel
theorem dX1_isGood_214 : decode cX1_isGood 214 = .ok (.goto 4, 3) := by decide +kernel
theorem dX1_isGood_217 : decode cX1_isGood 217 = .ok (.iconst 0, 1) := by decide +kernel
theorem dX1_isGood_218 : decode cX1_isGood 218 = .ok (.ireturn, 1) := by decide +kernel
theorem dX1_isGood_219 : decode cX1_isGood 219 = .ok (.aload_n 0, 1) := by decide +kernel
theorem dX1_isGood_220 : decode cX1_isGood 220 = .ok (.getfield 76, 3) := by decide +kernel
theorem dX1_isGood_223 : decode cX1_isGood 223 = .ok (.iconst 0, 1) := by decide +kernel
theorem dX1_isGood_224 : decode cX1_isGood 224 = .ok (.iload 4, 2) := by decide +kernel
theorem dX1_isGood_226 : decode cX1_isGood 226 = .ok (.invokevirtual 517, 3) := by decide +kernel
theorem dX1_isGood_229 : decode cX1_isGood 229 = .ok (.ifCond .eq 17, 3) := by decide +kernel
theorem dX1_isGood_232 : decode cX1_isGood 232 = .ok (.aload_n 0, 1) := by decide +kernel
theorem dX1_isGood_233 : decode cX1_isGood 233 = .ok (.getfield 76, 3) := by decide +kernel
theorem dX1_isGood_236 : decode cX1_isGood 236 = .ok (.invokevirtual 520, 3) := by decide +kernel
theorem dX1_isGood_239 : decode cX1_isGood 239 = .ok (.ifCond .eq 7, 3) := by decide +kernel
theorem dX1_isGood_242 : decode cX1_isGood 242 = .ok (.iconst 1, 1) := by decide +kernel
theorem dX1_isGood_243 : decode cX1_isGood 243 = .ok (.goto 4, 3) := by decide +kernel
theorem dX1_isGood_246 : decode cX1_isGood 246 = .ok (.iconst 0, 1) := by decide +kernel
theorem dX1_isGood_247 : decode cX1_isGood 247 = .ok (.ireturn, 1) := by decide +kernel
theorem dX1_isGood_248 : decode cX1_isGood 248 = .ok (.aload_n 0, 1) := by decide +kernel
theorem dX1_isGood_249 : decode cX1_isGood 249 = .ok (.iload 4, 2) := by decide +kernel
theorem dX1_isGood_251 : decode cX1_isGood 251 = .ok (.invokevirtual 523, 3) := by decide +kernel
theorem dX1_isGood_254 : decode cX1_isGood 254 = .ok (.ifCond .eq 33, 3) := by decide +kernel
theorem dX1_isGood_257 : decode cX1_isGood 257 = .ok (.aload_n 0, 1) := by decide +kernel
theorem dX1_isGood_258 : decode cX1_isGood 258 = .ok (.getfield 80, 3) := by decide +kernel
theorem dX1_isGood_261 : decode cX1_isGood 261 = .ok (.invokevirtual 520, 3) := by decide +kernel
theorem dX1_isGood_264 : decode cX1_isGood 264 = .ok (.ifCond .eq 23, 3) := by decide +kernel
theorem dX1_isGood_267 : decode cX1_isGood 267 = .ok (.iload_n 1, 1) := by decide +kernel
theorem dX1_isGood_268 : decode cX1_isGood 268 = .ok (.bipush 11, 2) := by decide +kernel
theorem dX1_isGood_270 : decode cX1_isGood 270 = .ok (.if_icmp .eq 13, 3) := by decide +kernel
theorem dX1_isGood_273 : decode cX1_isGood 273 = .ok (.aload_n 0, 1) := by decide +kernel
theorem dX1_isGood_274 : decode cX1_isGood 274 = .ok (.getfield 76, 3) := by decide +kernel
theorem dX1_isGood_277 : decode cX1_isGood 277 = .ok (.invokevirtual 520, 3) := by decide +kernel
theorem dX1_isGood_280 : decode cX1_isGood 280 = .ok (.ifCond .eq 7, 3) := by decide +kernel
theorem dX1_isGood_283 : decode cX1_isGood 283 = .ok (.iconst 1, 1) := by decide +kernel
theorem dX1_isGood_284 : decode cX1_isGood 284 = .ok (.goto 4, 3) := by decide +kernel
theorem dX1_isGood_287 : decode cX1_isGood 287 = .ok (.iconst 0, 1) := by decide +kernel
theorem dX1_isGood_288 : decode cX1_isGood 288 = .ok (.ireturn, 1) := by decide +kernel
theorem dX1_isGood_289 : decode cX1_isGood 289 = .ok (.iload_n 2, 1) := by decide +kernel
theorem dX1_isGood_290 : decode cX1_isGood 290 = .ok (.iconst 0, 1) := by decide +kernel
theorem dX1_isGood_291 : decode cX1_isGood 291 = .ok (.iconst 2, 1) := by decide +kernel
theorem dX1_isGood_292 : decode cX1_isGood 292 = .ok (.invokestatic 211, 3) := by decide +kernel
theorem dX1_isGood_295 : decode cX1_isGood 295 = .ok (.ifCond .eq 20, 3) := by decide +kernel
theorem dX1_isGood_298 : decode cX1_isGood 298 = .ok (.aload_n 0, 1) := by decide +kernel
theorem dX1_isGood_299 : decode cX1_isGood 299 = .ok (.getfield 76, 3) := by decide +kernel
theorem dX1_isGood_302 : decode cX1_isGood 302 = .ok (.iconst 0, 1) := by decide +kernel
theorem dX1_isGood_303 : decode cX1_isGood 303 = .ok (.iload 4, 2) := by decide +kernel
theorem dX1_isGood_305 : decode cX1_isGood 305 = .ok (.invokevirtual 517, 3) := by decide +kernel
theorem dX1_isGood_308 : decode cX1_isGood 308 = .ok (.ifCond .eq 7, 3) := by decide +kernel
theorem dX1_isGood_311 : decode cX1_isGood 311 = .ok (.iconst 1, 1) := by decide +kernel
theorem dX1_isGood_312 : decode cX1_isGood 312 = .ok (.goto 4, 3) := by decide +kernel
theorem dX1_isGood_315 : decode cX1_isGood 315 = .ok (.iconst 0, 1) := by decide +kernel
theorem dX1_isGood_316 : decode cX1_isGood 316 = .ok (.ireturn, 1) := by decide +kernel
theorem dX1_isGood_317 : decode cX1_isGood 317 = .ok (.aload_n 0, 1) := by decide +kernel
theorem dX1_isGood_318 : decode cX1_isGood 318 = .ok (.getfield 76, 3) := by decide +kernel
theorem dX1_isGood_321 : decode cX1_isGood 321 = .ok (.iconst 0, 1) := by decide +kernel
theorem dX1_isGood_322 : decode cX1_isGood 322 = .ok (.iload 4, 2) := by decide +kernel
theorem dX1_isGood_324 : decode cX1_isGood 324 = .ok (.invokevirtual 517, 3) := by decide +kernel
theorem dX1_isGood_327 : decode cX1_isGood 327 = .ok (.ireturn, 1) := by decide +kernel
theorem dX1_isGood_328 : decode cX1_isGood 328 = .ok (.iload_n 2, 1) := by decide +kernel
theorem dX1_isGood_329 : decode cX1_isGood 329 = .ok (.iconst 0, 1) := by decide +kernel
theorem dX1_isGood_330 : decode cX1_isGood 330 = .ok (.bipush 100, 2) := by decide +kernel
theorem dX1_isGood_332 : decode cX1_isGood 332 = .ok (.invokestatic 211, 3) := by decide +kernel
theorem dX1_isGood_335 : decode cX1_isGood 335 = .ok (.ireturn, 1) := by decide +kernel
theorem dX1_isGood_336 : decode cX1_isGood 336 = .ok (.iload_n 2, 1) := by decide +kernel
theorem dX1_isGood_337 : decode cX1_isGood 337 = .ok (.iconst 0, 1) := by decide +kernel
theorem dX1_isGood_338 : decode cX1_isGood 338 = .ok (.bipush 15, 2) := by decide +kernel
theorem dX1_isGood_340 : decode cX1_isGood 340 = .ok (.invokestatic 211, 3) := by decide +kernel
theorem dX1_isGood_343 : decode cX1_isGood 343 = .ok (.ifCond .eq 17, 3) := by decide +kernel
theorem dX1_isGood_346 : decode cX1_isGood 346 = .ok (.iload_n 3, 1) := by decide +kernel
theorem dX1_isGood_347 : decode cX1_isGood 347 = .ok (.iconst 1, 1) := by decide +kernel
theorem dX1_isGood_348 : decode cX1_isGood 348 = .ok (.bipush 15, 2) := by decide +kernel
theorem dX1_isGood_350 : decode cX1_isGood 350 = .ok (.invokestatic 211, 3) := by decide +kernel
theorem dX1_isGood_353 : decode cX1_isGood 353 = .ok (.ifCond .eq 7, 3) := by decide +kernel
theorem dX1_isGood_356 : decode cX1_isGood 356 = .ok (.iconst 1, 1) := by decide +kernel
theorem dX1_isGood_357 : decode cX1_isGood 357 = .ok (.goto 4, 3) := by decide +kernel
theorem dX1_isGood_360 : decode cX1_isGood 360 = .ok (.iconst 0, 1) := by decide +kernel
theorem dX1_isGood_361 : decode cX1_isGood 361 = .ok (.ireturn, 1) := by decide +kernel
theorem dX1_isGood_362 : decode cX1_isGood 362 = .ok (.iconst 1, 1) := by decide +kernel
theorem dX1_isGood_363 : decode cX1_isGood 363 = .ok (.ireturn, 1) := by decide +kernel
set_option maxHeartbeats 400000 in
set_option maxRecDepth 100000 in
theorem c_X1_isGood_1 {G : xG} {n : Nat} {Q : Outcome → xS → Prop} {I : xI} {J : xJ} {R Z : xR} {T : xT} {N B : Nat} (hk : KS Z T N B) {va vb : Int32} {e : Nat} (he : e ≤ 256) (hn : 2 ≤ n) (hq : Q (.returned (some (.int (b2i (0 ≤ va ∧ va ≤ 7))))) (I, J, R, Z, T)) : xCall G mX1_isGood n [.ref (T.ad 0 0), .int 1, .int va, .int vb, .int (nI e)] (I, J, R, Z, T) Q := by
  refine x_met (L0 := [(1, .ref (T.ad 0 0)), (1, .int 1), (1, .int va), (1, .int vb), (1, .int (nI e))]) (by decide +kernel) rfl ⟨Nat.le_of_ble_eq_true rfl, rfl⟩ ?_
  refine x_iload_n 1 dX1_isGood_0 rfl rfl ?_
  refine x_tin 1 157 dX1_isGood_1 rfl (by decide) (by decide) rfl (by decide) ?_
  refine x_iload_n 158 dX1_isGood_157 rfl rfl ?_
  refine x_iconst (v := 0) 159 dX1_isGood_158 rfl rfl ?_
  refine x_bipush (v := 7) 161 dX1_isGood_159 rfl rfl ?_
  refine x_callS (as := [.int va, .int 0, .int 7]) (rest := []) (n' := n - 1) 164 dX1_isGood_161 rfl ms_X1_211 rfl rfl (xnh rfl) (by omega) (xst (Nat.le_of_ble_eq_true rfl)) (c_X1_isIn (by omega) ?_)
  change X _ _ _ _ _ _ _ _ _ _
  refine x_zreturn dX1_isGood_164 rfl (b2i_01 _) ?_
  exact hq
set_option maxHeartbeats 400000 in
set_option maxRecDepth 100000 in
theorem c_X1_isGood_3 {G : xG} {n : Nat} {Q : Outcome → xS → Prop} {I : xI} {J : xJ} {R Z : xR} {T : xT} {N B : Nat} (hk : KS Z T N B) {va vb : Int32} {e : Nat} (he : e ≤ 256) (hn : 2 ≤ n) (hq : Q (.returned (some (.int (b2i (0 ≤ va ∧ va ≤ 7))))) (I, J, R, Z, T)) : xCall G mX1_isGood n [.ref (T.ad 0 0), .int 3, .int va, .int vb, .int (nI e)] (I, J, R, Z, T) Q := by
  refine x_met (L0 := [(1, .ref (T.ad 0 0)), (1, .int 3), (1, .int va), (1, .int vb), (1, .int (nI e))]) (by decide +kernel) rfl ⟨Nat.le_of_ble_eq_true rfl, rfl⟩ ?_
  refine x_iload_n 1 dX1_isGood_0 rfl rfl ?_
  refine x_tin 3 157 dX1_isGood_1 rfl (by decide) (by decide) rfl (by decide) ?_
  refine x_iload_n 158 dX1_isGood_157 rfl rfl ?_
  refine x_iconst (v := 0) 159 dX1_isGood_158 rfl rfl ?_
  refine x_bipush (v := 7) 161 dX1_isGood_159 rfl rfl ?_
  refine x_callS (as := [.int va, .int 0, .int 7]) (rest := []) (n' := n - 1) 164 dX1_isGood_161 rfl ms_X1_211 rfl rfl (xnh rfl) (by omega) (xst (Nat.le_of_ble_eq_true rfl)) (c_X1_isIn (by omega) ?_)
  change X _ _ _ _ _ _ _ _ _ _
  refine x_zreturn dX1_isGood_164 rfl (b2i_01 _) ?_
  exact hq
set_option maxHeartbeats 400000 in
set_option maxRecDepth 100000 in
theorem c_X1_isGood_6 {G : xG} {n : Nat} {Q : Outcome → xS → Prop} {I : xI} {J : xJ} {R Z : xR} {T : xT} {N B : Nat} (hk : KS Z T N B) {va vb : Int32} {e : Nat} (he : e ≤ 256) (hn : 2 ≤ n) (hq : Q (.returned (some (.int (b2i (0 ≤ va ∧ va ≤ 7))))) (I, J, R, Z, T)) : xCall G mX1_isGood n [.ref (T.ad 0 0), .int 6, .int va, .int vb, .int (nI e)] (I, J, R, Z, T) Q := by
  refine x_met (L0 := [(1, .ref (T.ad 0 0)), (1, .int 6), (1, .int va), (1, .int vb), (1, .int (nI e))]) (by decide +kernel) rfl ⟨Nat.le_of_ble_eq_true rfl, rfl⟩ ?_
  refine x_iload_n 1 dX1_isGood_0 rfl rfl ?_
  refine x_tin 6 157 dX1_isGood_1 rfl (by decide) (by decide) rfl (by decide) ?_
  refine x_iload_n 158 dX1_isGood_157 rfl rfl ?_
  refine x_iconst (v := 0) 159 dX1_isGood_158 rfl rfl ?_
  refine x_bipush (v := 7) 161 dX1_isGood_159 rfl rfl ?_
  refine x_callS (as := [.int va, .int 0, .int 7]) (rest := []) (n' := n - 1) 164 dX1_isGood_161 rfl ms_X1_211 rfl rfl (xnh rfl) (by omega) (xst (Nat.le_of_ble_eq_true rfl)) (c_X1_isIn (by omega) ?_)
  change X _ _ _ _ _ _ _ _ _ _
  refine x_zreturn dX1_isGood_164 rfl (b2i_01 _) ?_
  exact hq
set_option maxHeartbeats 400000 in
set_option maxRecDepth 100000 in
theorem c_X1_isGood_2 {G : xG} {n : Nat} {Q : Outcome → xS → Prop} {I : xI} {J : xJ} {R Z : xR} {T : xT} {N B : Nat} (hk : KS Z T N B) {va vb : Int32} {e : Nat} (he : e ≤ 256) (hn : 2 ≤ n) (hq : Q (.returned (some (.int (b2i ((0 ≤ va ∧ va ≤ 7) ∧ (0 ≤ vb ∧ vb ≤ 200)))))) (I, J, R, Z, T)) : xCall G mX1_isGood n [.ref (T.ad 0 0), .int 2, .int va, .int vb, .int (nI e)] (I, J, R, Z, T) Q := by
  refine x_met (L0 := [(1, .ref (T.ad 0 0)), (1, .int 2), (1, .int va), (1, .int vb), (1, .int (nI e))]) (by decide +kernel) rfl ⟨Nat.le_of_ble_eq_true rfl, rfl⟩ ?_
  refine x_iload_n 1 dX1_isGood_0 rfl rfl ?_
  refine x_tin 2 165 dX1_isGood_1 rfl (by decide) (by decide) rfl (by decide) ?_
  refine x_iload_n 166 dX1_isGood_165 rfl rfl ?_
  refine x_iconst (v := 0) 167 dX1_isGood_166 rfl rfl ?_
  refine x_bipush (v := 7) 169 dX1_isGood_167 rfl rfl ?_
  refine x_callS (as := [.int va, .int 0, .int 7]) (rest := []) (n' := n - 1) 172 dX1_isGood_169 rfl ms_X1_211 rfl rfl (xnh rfl) (by omega) (xst (Nat.le_of_ble_eq_true rfl)) (c_X1_isIn (by omega) ?_)
  change X _ _ _ _ _ _ _ _ _ _
  refine x_if_eq 190 175 dX1_isGood_172 (by decide) rfl (fun c172 => ?_) (fun c172 => ?_)
  · skip
    have c172 : ¬ (0 ≤ va ∧ va ≤ 7) := b2i_0.mp c172
    refine x_iconst (v := 0) 191 dX1_isGood_190 rfl rfl ?_
    refine x_zreturn dX1_isGood_191 rfl (Or.inl rfl) ?_
    exact xr0 (P := (0 ≤ va ∧ va ≤ 7) ∧ (0 ≤ vb ∧ vb ≤ 200)) (fun h => c172 h.1) hq
  · skip
    have c172 : 0 ≤ va ∧ va ≤ 7 := b2i_n0.mp c172
    refine x_iload_n 176 dX1_isGood_175 rfl rfl ?_
    refine x_iconst (v := 0) 177 dX1_isGood_176 rfl rfl ?_
    refine x_sipush (v := 200) 180 dX1_isGood_177 rfl rfl ?_
    refine x_callS (as := [.int vb, .int 0, .int 200]) (rest := []) (n' := n - 1) 183 dX1_isGood_180 rfl ms_X1_211 rfl rfl (xnh rfl) (by omega) (xst (Nat.le_of_ble_eq_true rfl)) (c_X1_isIn (by omega) ?_)
    change X _ _ _ _ _ _ _ _ _ _
    refine x_if_eq 190 186 dX1_isGood_183 (by decide) rfl (fun c183 => ?_) (fun c183 => ?_)
    · skip
      have c183 : ¬ (0 ≤ vb ∧ vb ≤ 200) := b2i_0.mp c183
      refine x_iconst (v := 0) 191 dX1_isGood_190 rfl rfl ?_
      refine x_zreturn dX1_isGood_191 rfl (Or.inl rfl) ?_
      exact xr0 (P := (0 ≤ va ∧ va ≤ 7) ∧ (0 ≤ vb ∧ vb ≤ 200)) (fun h => c183 h.2) hq
    · skip
      have c183 : 0 ≤ vb ∧ vb ≤ 200 := b2i_n0.mp c183
      refine x_iconst (v := 1) 187 dX1_isGood_186 rfl rfl ?_
      refine x_goto 191 dX1_isGood_187 (by decide) ?_
      refine x_zreturn dX1_isGood_191 rfl (Or.inr rfl) ?_
      exact xr1 (P := (0 ≤ va ∧ va ≤ 7) ∧ (0 ≤ vb ∧ vb ≤ 200)) (⟨c172, c183⟩) hq
set_option maxHeartbeats 400000 in
set_option maxRecDepth 100000 in
theorem c_X1_isGood_4 {G : xG} {n : Nat} {Q : Outcome → xS → Prop} {I : xI} {J : xJ} {R Z : xR} {T : xT} {N B : Nat} (hk : KS Z T N B) {va vb : Int32} {e : Nat} (he : e ≤ 256) (hn : 2 ≤ n) (hq : Q (.returned (some (.int (b2i ((0 ≤ va ∧ va ≤ 7) ∧ (0 ≤ vb ∧ vb ≤ 8192)))))) (I, J, R, Z, T)) : xCall G mX1_isGood n [.ref (T.ad 0 0), .int 4, .int va, .int vb, .int (nI e)] (I, J, R, Z, T) Q := by
  refine x_met (L0 := [(1, .ref (T.ad 0 0)), (1, .int 4), (1, .int va), (1, .int vb), (1, .int (nI e))]) (by decide +kernel) rfl ⟨Nat.le_of_ble_eq_true rfl, rfl⟩ ?_
  refine x_iload_n 1 dX1_isGood_0 rfl rfl ?_
  refine x_tin 4 192 dX1_isGood_1 rfl (by decide) (by decide) rfl (by decide) ?_
  refine x_iload_n 193 dX1_isGood_192 rfl rfl ?_
  refine x_iconst (v := 0) 194 dX1_isGood_193 rfl rfl ?_
  refine x_bipush (v := 7) 196 dX1_isGood_194 rfl rfl ?_
  refine x_callS (as := [.int va, .int 0, .int 7]) (rest := []) (n' := n - 1) 199 dX1_isGood_196 rfl ms_X1_211 rfl rfl (xnh rfl) (by omega) (xst (Nat.le_of_ble_eq_true rfl)) (c_X1_isIn (by omega) ?_)
  change X _ _ _ _ _ _ _ _ _ _
  refine x_if_eq 217 202 dX1_isGood_199 (by decide) rfl (fun c199 => ?_) (fun c199 => ?_)
  · skip
    have c199 : ¬ (0 ≤ va ∧ va ≤ 7) := b2i_0.mp c199
    refine x_iconst (v := 0) 218 dX1_isGood_217 rfl rfl ?_
    refine x_zreturn dX1_isGood_218 rfl (Or.inl rfl) ?_
    exact xr0 (P := (0 ≤ va ∧ va ≤ 7) ∧ (0 ≤ vb ∧ vb ≤ 8192)) (fun h => c199 h.1) hq
  · skip
    have c199 : 0 ≤ va ∧ va ≤ 7 := b2i_n0.mp c199
    refine x_iload_n 203 dX1_isGood_202 rfl rfl ?_
    refine x_iconst (v := 0) 204 dX1_isGood_203 rfl rfl ?_
    refine x_sipush (v := 8192) 207 dX1_isGood_204 rfl rfl ?_
    refine x_callS (as := [.int vb, .int 0, .int 8192]) (rest := []) (n' := n - 1) 210 dX1_isGood_207 rfl ms_X1_211 rfl rfl (xnh rfl) (by omega) (xst (Nat.le_of_ble_eq_true rfl)) (c_X1_isIn (by omega) ?_)
    change X _ _ _ _ _ _ _ _ _ _
    refine x_if_eq 217 213 dX1_isGood_210 (by decide) rfl (fun c210 => ?_) (fun c210 => ?_)
    · skip
      have c210 : ¬ (0 ≤ vb ∧ vb ≤ 8192) := b2i_0.mp c210
      refine x_iconst (v := 0) 218 dX1_isGood_217 rfl rfl ?_
      refine x_zreturn dX1_isGood_218 rfl (Or.inl rfl) ?_
      exact xr0 (P := (0 ≤ va ∧ va ≤ 7) ∧ (0 ≤ vb ∧ vb ≤ 8192)) (fun h => c210 h.2) hq
    · skip
      have c210 : 0 ≤ vb ∧ vb ≤ 8192 := b2i_n0.mp c210
      refine x_iconst (v := 1) 214 dX1_isGood_213 rfl rfl ?_
      refine x_goto 218 dX1_isGood_214 (by decide) ?_
      refine x_zreturn dX1_isGood_218 rfl (Or.inr rfl) ?_
      exact xr1 (P := (0 ≤ va ∧ va ≤ 7) ∧ (0 ≤ vb ∧ vb ≤ 8192)) (⟨c199, c210⟩) hq
set_option maxHeartbeats 400000 in
set_option maxRecDepth 100000 in
theorem c_X1_isGood_5 {G : xG} {n : Nat} {Q : Outcome → xS → Prop} {I : xI} {J : xJ} {R Z : xR} {T : xT} {N B : Nat} (hk : KS Z T N B) {va vb : Int32} {e : Nat} (he : e ≤ 256) (hn : 2 ≤ n) (hq : Q (.returned (some (.int (b2i ((0 ≤ va ∧ va ≤ 7) ∧ (0 ≤ vb ∧ vb ≤ 8192)))))) (I, J, R, Z, T)) : xCall G mX1_isGood n [.ref (T.ad 0 0), .int 5, .int va, .int vb, .int (nI e)] (I, J, R, Z, T) Q := by
  refine x_met (L0 := [(1, .ref (T.ad 0 0)), (1, .int 5), (1, .int va), (1, .int vb), (1, .int (nI e))]) (by decide +kernel) rfl ⟨Nat.le_of_ble_eq_true rfl, rfl⟩ ?_
  refine x_iload_n 1 dX1_isGood_0 rfl rfl ?_
  refine x_tin 5 192 dX1_isGood_1 rfl (by decide) (by decide) rfl (by decide) ?_
  refine x_iload_n 193 dX1_isGood_192 rfl rfl ?_
  refine x_iconst (v := 0) 194 dX1_isGood_193 rfl rfl ?_
  refine x_bipush (v := 7) 196 dX1_isGood_194 rfl rfl ?_
  refine x_callS (as := [.int va, .int 0, .int 7]) (rest := []) (n' := n - 1) 199 dX1_isGood_196 rfl ms_X1_211 rfl rfl (xnh rfl) (by omega) (xst (Nat.le_of_ble_eq_true rfl)) (c_X1_isIn (by omega) ?_)
  change X _ _ _ _ _ _ _ _ _ _
  refine x_if_eq 217 202 dX1_isGood_199 (by decide) rfl (fun c199 => ?_) (fun c199 => ?_)
  · skip
    have c199 : ¬ (0 ≤ va ∧ va ≤ 7) := b2i_0.mp c199
    refine x_iconst (v := 0) 218 dX1_isGood_217 rfl rfl ?_
    refine x_zreturn dX1_isGood_218 rfl (Or.inl rfl) ?_
    exact xr0 (P := (0 ≤ va ∧ va ≤ 7) ∧ (0 ≤ vb ∧ vb ≤ 8192)) (fun h => c199 h.1) hq
  · skip
    have c199 : 0 ≤ va ∧ va ≤ 7 := b2i_n0.mp c199
    refine x_iload_n 203 dX1_isGood_202 rfl rfl ?_
    refine x_iconst (v := 0) 204 dX1_isGood_203 rfl rfl ?_
    refine x_sipush (v := 8192) 207 dX1_isGood_204 rfl rfl ?_
    refine x_callS (as := [.int vb, .int 0, .int 8192]) (rest := []) (n' := n - 1) 210 dX1_isGood_207 rfl ms_X1_211 rfl rfl (xnh rfl) (by omega) (xst (Nat.le_of_ble_eq_true rfl)) (c_X1_isIn (by omega) ?_)
    change X _ _ _ _ _ _ _ _ _ _
    refine x_if_eq 217 213 dX1_isGood_210 (by decide) rfl (fun c210 => ?_) (fun c210 => ?_)
    · skip
      have c210 : ¬ (0 ≤ vb ∧ vb ≤ 8192) := b2i_0.mp c210
      refine x_iconst (v := 0) 218 dX1_isGood_217 rfl rfl ?_
      refine x_zreturn dX1_isGood_218 rfl (Or.inl rfl) ?_
      exact xr0 (P := (0 ≤ va ∧ va ≤ 7) ∧ (0 ≤ vb ∧ vb ≤ 8192)) (fun h => c210 h.2) hq
    · skip
      have c210 : 0 ≤ vb ∧ vb ≤ 8192 := b2i_n0.mp c210
      refine x_iconst (v := 1) 214 dX1_isGood_213 rfl rfl ?_
      refine x_goto 218 dX1_isGood_214 (by decide) ?_
      refine x_zreturn dX1_isGood_218 rfl (Or.inr rfl) ?_
      exact xr1 (P := (0 ≤ va ∧ va ≤ 7) ∧ (0 ≤ vb ∧ vb ≤ 8192)) (⟨c199, c210⟩) hq
set_option maxHeartbeats 400000 in
set_option maxRecDepth 100000 in
theorem c_X1_isGood_17 {G : xG} {n : Nat} {Q : Outcome → xS → Prop} {I : xI} {J : xJ} {R Z : xR} {T : xT} {N B : Nat} (hk : KS Z T N B) {va vb : Int32} {e : Nat} (he : e ≤ 256) (hn : 2 ≤ n) (hq : Q (.returned (some (.int (b2i (0 ≤ va ∧ va ≤ 100))))) (I, J, R, Z, T)) : xCall G mX1_isGood n [.ref (T.ad 0 0), .int 17, .int va, .int vb, .int (nI e)] (I, J, R, Z, T) Q := by
  refine x_met (L0 := [(1, .ref (T.ad 0 0)), (1, .int 17), (1, .int va), (1, .int vb), (1, .int (nI e))]) (by decide +kernel) rfl ⟨Nat.le_of_ble_eq_true rfl, rfl⟩ ?_
  refine x_iload_n 1 dX1_isGood_0 rfl rfl ?_
  refine x_tin 17 328 dX1_isGood_1 rfl (by decide) (by decide) rfl (by decide) ?_
  refine x_iload_n 329 dX1_isGood_328 rfl rfl ?_
  refine x_iconst (v := 0) 330 dX1_isGood_329 rfl rfl ?_
  refine x_bipush (v := 100) 332 dX1_isGood_330 rfl rfl ?_
  refine x_callS (as := [.int va, .int 0, .int 100]) (rest := []) (n' := n - 1) 335 dX1_isGood_332 rfl ms_X1_211 rfl rfl (xnh rfl) (by omega) (xst (Nat.le_of_ble_eq_true rfl)) (c_X1_isIn (by omega) ?_)
  change X _ _ _ _ _ _ _ _ _ _
  refine x_zreturn dX1_isGood_335 rfl (b2i_01 _) ?_
  exact hq
set_option maxHeartbeats 400000 in
set_option maxRecDepth 100000 in
theorem c_X1_isGood_19 {G : xG} {n : Nat} {Q : Outcome → xS → Prop} {I : xI} {J : xJ} {R Z : xR} {T : xT} {N B : Nat} (hk : KS Z T N B) {va vb : Int32} {e : Nat} (he : e ≤ 256) (hn : 2 ≤ n) (hq : Q (.returned (some (.int (b2i ((0 ≤ va ∧ va ≤ 15) ∧ (1 ≤ vb ∧ vb ≤ 15)))))) (I, J, R, Z, T)) : xCall G mX1_isGood n [.ref (T.ad 0 0), .int 19, .int va, .int vb, .int (nI e)] (I, J, R, Z, T) Q := by
  refine x_met (L0 := [(1, .ref (T.ad 0 0)), (1, .int 19), (1, .int va), (1, .int vb), (1, .int (nI e))]) (by decide +kernel) rfl ⟨Nat.le_of_ble_eq_true rfl, rfl⟩ ?_
  refine x_iload_n 1 dX1_isGood_0 rfl rfl ?_
  refine x_tin 19 336 dX1_isGood_1 rfl (by decide) (by decide) rfl (by decide) ?_
  refine x_iload_n 337 dX1_isGood_336 rfl rfl ?_
  refine x_iconst (v := 0) 338 dX1_isGood_337 rfl rfl ?_
  refine x_bipush (v := 15) 340 dX1_isGood_338 rfl rfl ?_
  refine x_callS (as := [.int va, .int 0, .int 15]) (rest := []) (n' := n - 1) 343 dX1_isGood_340 rfl ms_X1_211 rfl rfl (xnh rfl) (by omega) (xst (Nat.le_of_ble_eq_true rfl)) (c_X1_isIn (by omega) ?_)
  change X _ _ _ _ _ _ _ _ _ _
  refine x_if_eq 360 346 dX1_isGood_343 (by decide) rfl (fun c343 => ?_) (fun c343 => ?_)
  · skip
    have c343 : ¬ (0 ≤ va ∧ va ≤ 15) := b2i_0.mp c343
    refine x_iconst (v := 0) 361 dX1_isGood_360 rfl rfl ?_
    refine x_zreturn dX1_isGood_361 rfl (Or.inl rfl) ?_
    exact xr0 (P := (0 ≤ va ∧ va ≤ 15) ∧ (1 ≤ vb ∧ vb ≤ 15)) (fun h => c343 h.1) hq
  · skip
    have c343 : 0 ≤ va ∧ va ≤ 15 := b2i_n0.mp c343
    refine x_iload_n 347 dX1_isGood_346 rfl rfl ?_
    refine x_iconst (v := 1) 348 dX1_isGood_347 rfl rfl ?_
    refine x_bipush (v := 15) 350 dX1_isGood_348 rfl rfl ?_
    refine x_callS (as := [.int vb, .int 1, .int 15]) (rest := []) (n' := n - 1) 353 dX1_isGood_350 rfl ms_X1_211 rfl rfl (xnh rfl) (by omega) (xst (Nat.le_of_ble_eq_true rfl)) (c_X1_isIn (by omega) ?_)
    change X _ _ _ _ _ _ _ _ _ _
    refine x_if_eq 360 356 dX1_isGood_353 (by decide) rfl (fun c353 => ?_) (fun c353 => ?_)
    · skip
      have c353 : ¬ (1 ≤ vb ∧ vb ≤ 15) := b2i_0.mp c353
      refine x_iconst (v := 0) 361 dX1_isGood_360 rfl rfl ?_
      refine x_zreturn dX1_isGood_361 rfl (Or.inl rfl) ?_
      exact xr0 (P := (0 ≤ va ∧ va ≤ 15) ∧ (1 ≤ vb ∧ vb ≤ 15)) (fun h => c353 h.2) hq
    · skip
      have c353 : 1 ≤ vb ∧ vb ≤ 15 := b2i_n0.mp c353
      refine x_iconst (v := 1) 357 dX1_isGood_356 rfl rfl ?_
      refine x_goto 361 dX1_isGood_357 (by decide) ?_
      refine x_zreturn dX1_isGood_361 rfl (Or.inr rfl) ?_
      exact xr1 (P := (0 ≤ va ∧ va ≤ 15) ∧ (1 ≤ vb ∧ vb ≤ 15)) (⟨c343, c353⟩) hq
set_option maxHeartbeats 400000 in
set_option maxRecDepth 100000 in
theorem c_X1_isGood_7 {G : xG} {n : Nat} {Q : Outcome → xS → Prop} {I : xI} {J : xJ} {R Z : xR} {T : xT} {N B : Nat} (hk : KS Z T N B) {va vb : Int32} {e : Nat} (he : e ≤ 256) (hn : 2 ≤ n) (hq : Q (.returned (some (.int 1))) (I, J, R, Z, T)) : xCall G mX1_isGood n [.ref (T.ad 0 0), .int 7, .int va, .int vb, .int (nI e)] (I, J, R, Z, T) Q := by
  refine x_met (L0 := [(1, .ref (T.ad 0 0)), (1, .int 7), (1, .int va), (1, .int vb), (1, .int (nI e))]) (by decide +kernel) rfl ⟨Nat.le_of_ble_eq_true rfl, rfl⟩ ?_
  refine x_iload_n 1 dX1_isGood_0 rfl rfl ?_
  refine x_tin 7 362 dX1_isGood_1 rfl (by decide) (by decide) rfl (by decide) ?_
  refine x_iconst (v := 1) 363 dX1_isGood_362 rfl rfl ?_
  refine x_zreturn dX1_isGood_363 rfl (Or.inr rfl) ?_
  exact hq
set_option maxHeartbeats 400000 in
set_option maxRecDepth 100000 in
theorem c_X1_isGood_16 {G : xG} {n : Nat} {Q : Outcome → xS → Prop} {I : xI} {J : xJ} {R Z : xR} {T : xT} {N B : Nat} (hk : KS Z T N B) {va vb : Int32} {e : Nat} (he : e ≤ 256) (hn : 2 ≤ n) (hq : Q (.returned (some (.int 1))) (I, J, R, Z, T)) : xCall G mX1_isGood n [.ref (T.ad 0 0), .int 16, .int va, .int vb, .int (nI e)] (I, J, R, Z, T) Q := by
  refine x_met (L0 := [(1, .ref (T.ad 0 0)), (1, .int 16), (1, .int va), (1, .int vb), (1, .int (nI e))]) (by decide +kernel) rfl ⟨Nat.le_of_ble_eq_true rfl, rfl⟩ ?_
  refine x_iload_n 1 dX1_isGood_0 rfl rfl ?_
  refine x_tin 16 362 dX1_isGood_1 rfl (by decide) (by decide) rfl (by decide) ?_
  refine x_iconst (v := 1) 363 dX1_isGood_362 rfl rfl ?_
  refine x_zreturn dX1_isGood_363 rfl (Or.inr rfl) ?_
  exact hq
set_option maxHeartbeats 400000 in
set_option maxRecDepth 100000 in
theorem c_X1_isGood_18 {G : xG} {n : Nat} {Q : Outcome → xS → Prop} {I : xI} {J : xJ} {R Z : xR} {T : xT} {N B : Nat} (hk : KS Z T N B) {va vb : Int32} {e : Nat} (he : e ≤ 256) (hn : 2 ≤ n) (hq : Q (.returned (some (.int 1))) (I, J, R, Z, T)) : xCall G mX1_isGood n [.ref (T.ad 0 0), .int 18, .int va, .int vb, .int (nI e)] (I, J, R, Z, T) Q := by
  refine x_met (L0 := [(1, .ref (T.ad 0 0)), (1, .int 18), (1, .int va), (1, .int vb), (1, .int (nI e))]) (by decide +kernel) rfl ⟨Nat.le_of_ble_eq_true rfl, rfl⟩ ?_
  refine x_iload_n 1 dX1_isGood_0 rfl rfl ?_
  refine x_tin 18 362 dX1_isGood_1 rfl (by decide) (by decide) rfl (by decide) ?_
  refine x_iconst (v := 1) 363 dX1_isGood_362 rfl rfl ?_
  refine x_zreturn dX1_isGood_363 rfl (Or.inr rfl) ?_
  exact hq
set_option maxHeartbeats 400000 in
set_option maxRecDepth 100000 in
theorem c_X1_isGood_20 {G : xG} {n : Nat} {Q : Outcome → xS → Prop} {I : xI} {J : xJ} {R Z : xR} {T : xT} {N B : Nat} (hk : KS Z T N B) {va vb : Int32} {e : Nat} (he : e ≤ 256) (hn : 2 ≤ n) (hq : Q (.returned (some (.int 1))) (I, J, R, Z, T)) : xCall G mX1_isGood n [.ref (T.ad 0 0), .int 20, .int va, .int vb, .int (nI e)] (I, J, R, Z, T) Q := by
  refine x_met (L0 := [(1, .ref (T.ad 0 0)), (1, .int 20), (1, .int va), (1, .int vb), (1, .int (nI e))]) (by decide +kernel) rfl ⟨Nat.le_of_ble_eq_true rfl, rfl⟩ ?_
  refine x_iload_n 1 dX1_isGood_0 rfl rfl ?_
  refine x_vi (w := nI 20) rfl ?_
  refine x_tout 362 dX1_isGood_1 (by decide) (xtn (by decide) (by decide)) (by decide) ?_
  refine x_iconst (v := 1) 363 dX1_isGood_362 rfl rfl ?_
  refine x_zreturn dX1_isGood_363 rfl (Or.inr rfl) ?_
  exact hq
set_option maxHeartbeats 400000 in
set_option maxRecDepth 100000 in
theorem c_X1_isGood_21 {G : xG} {n : Nat} {Q : Outcome → xS → Prop} {I : xI} {J : xJ} {R Z : xR} {T : xT} {N B : Nat} (hk : KS Z T N B) {va vb : Int32} {e : Nat} (he : e ≤ 256) (hn : 2 ≤ n) (hq : Q (.returned (some (.int 1))) (I, J, R, Z, T)) : xCall G mX1_isGood n [.ref (T.ad 0 0), .int 21, .int va, .int vb, .int (nI e)] (I, J, R, Z, T) Q := by
  refine x_met (L0 := [(1, .ref (T.ad 0 0)), (1, .int 21), (1, .int va), (1, .int vb), (1, .int (nI e))]) (by decide +kernel) rfl ⟨Nat.le_of_ble_eq_true rfl, rfl⟩ ?_
  refine x_iload_n 1 dX1_isGood_0 rfl rfl ?_
  refine x_vi (w := nI 21) rfl ?_
  refine x_tout 362 dX1_isGood_1 (by decide) (xtn (by decide) (by decide)) (by decide) ?_
  refine x_iconst (v := 1) 363 dX1_isGood_362 rfl rfl ?_
  refine x_zreturn dX1_isGood_363 rfl (Or.inr rfl) ?_
  exact hq
set_option maxHeartbeats 400000 in
set_option maxRecDepth 100000 in
theorem c_X1_isGood_22 {G : xG} {n : Nat} {Q : Outcome → xS → Prop} {I : xI} {J : xJ} {R Z : xR} {T : xT} {N B : Nat} (hk : KS Z T N B) {va vb : Int32} {e : Nat} (he : e ≤ 256) (hn : 2 ≤ n) (hq : Q (.returned (some (.int 1))) (I, J, R, Z, T)) : xCall G mX1_isGood n [.ref (T.ad 0 0), .int 22, .int va, .int vb, .int (nI e)] (I, J, R, Z, T) Q := by
  refine x_met (L0 := [(1, .ref (T.ad 0 0)), (1, .int 22), (1, .int va), (1, .int vb), (1, .int (nI e))]) (by decide +kernel) rfl ⟨Nat.le_of_ble_eq_true rfl, rfl⟩ ?_
  refine x_iload_n 1 dX1_isGood_0 rfl rfl ?_
  refine x_vi (w := nI 22) rfl ?_
  refine x_tout 362 dX1_isGood_1 (by decide) (xtn (by decide) (by decide)) (by decide) ?_
  refine x_iconst (v := 1) 363 dX1_isGood_362 rfl rfl ?_
  refine x_zreturn dX1_isGood_363 rfl (Or.inr rfl) ?_
  exact hq
set_option maxHeartbeats 400000 in
set_option maxRecDepth 100000 in
theorem c_X1_isGood_23 {G : xG} {n : Nat} {Q : Outcome → xS → Prop} {I : xI} {J : xJ} {R Z : xR} {T : xT} {N B : Nat} (hk : KS Z T N B) {va vb : Int32} {e : Nat} (he : e ≤ 256) (hn : 2 ≤ n) (hq : Q (.returned (some (.int 1))) (I, J, R, Z, T)) : xCall G mX1_isGood n [.ref (T.ad 0 0), .int 23, .int va, .int vb, .int (nI e)] (I, J, R, Z, T) Q := by
  refine x_met (L0 := [(1, .ref (T.ad 0 0)), (1, .int 23), (1, .int va), (1, .int vb), (1, .int (nI e))]) (by decide +kernel) rfl ⟨Nat.le_of_ble_eq_true rfl, rfl⟩ ?_
  refine x_iload_n 1 dX1_isGood_0 rfl rfl ?_
  refine x_vi (w := nI 23) rfl ?_
  refine x_tout 362 dX1_isGood_1 (by decide) (xtn (by decide) (by decide)) (by decide) ?_
  refine x_iconst (v := 1) 363 dX1_isGood_362 rfl rfl ?_
  refine x_zreturn dX1_isGood_363 rfl (Or.inr rfl) ?_
  exact hq
set_option maxHeartbeats 400000 in
set_option maxRecDepth 100000 in
theorem c_X1_isGood_8 {G : xG} {n : Nat} {Q : Outcome → xS → Prop} {I : xI} {J : xJ} {R Z : xR} {T : xT} {N B : Nat} (hk : KS Z T N B) {va vb : Int32} {e : Nat} (he : e ≤ 256) (hn : 4 ≤ n) (hq0 : (¬ ((True) ∧ ∃ l, pParse (I 27 0) 0 e = some l ∧ pLast (I 27 0) l.length (lF l) (lG l))) → ∀ I' : xI, pF2 I I' → Q (.returned (some (.int 0))) (I', J, R, Z, T)) (hq1 : (True) → ∀ l I', pF2 I I' → pGot I I' 0 0 e l → pLast (I 27 0) l.length (lF l) (lG l) → Q (.returned (some (.int 1))) (I', J, R, Z, T)) : xCall G mX1_isGood n [.ref (T.ad 0 0), .int 8, .int va, .int vb, .int (nI e)] (I, J, R, Z, T) Q := by
  refine x_met (L0 := [(1, .ref (T.ad 0 0)), (1, .int 8), (1, .int va), (1, .int vb), (1, .int (nI e))]) (by decide +kernel) rfl ⟨Nat.le_of_ble_eq_true rfl, rfl⟩ ?_
  refine x_iload_n 1 dX1_isGood_0 rfl rfl ?_
  refine x_tin 8 219 dX1_isGood_1 rfl (by decide) (by decide) rfl (by decide) ?_
  refine x_aload_n 220 dX1_isGood_219 rfl rfl ?_
  refine x_getz 223 dX1_isGood_220 rfl fl_X1_76 (hk.l0 (by omega)) (hk.z0_23 (by omega)) ?_
  refine x_iconst (v := 0) 224 dX1_isGood_223 rfl rfl ?_
  refine x_iload 226 dX1_isGood_224 rfl rfl ?_
  refine x_callV (as := [.int (nI 0), .int (nI e)]) (rest := []) (i := 0) (n' := n - 1) 229 dX1_isGood_226 rfl mv_X1_517 rfl rfl (hk.l4 (by omega)) (xnh rfl) (by omega) (xst (Nat.le_of_ble_eq_true rfl)) (c_X5_read (i := 0) (s := 0) (e := e) hk (by omega) (by omega) (by omega) (by omega) ?_ ?_)
  · skip
    intro hpn0 Ia hFIa
    change X _ _ _ _ _ _ _ _ _ _
    refine x_if_eq 246 232 dX1_isGood_229 (by decide) rfl (fun c229 => ?_) (fun c229 => ?_)
    · skip
      refine x_iconst (v := 0) 247 dX1_isGood_246 rfl rfl ?_
      refine x_zreturn dX1_isGood_247 rfl (Or.inl rfl) ?_
      exact hq0 (fun ⟨_, l, h, _⟩ => by rw [hpn0] at h; cases h) Ia hFIa.f2
    · skip
      exfalso; revert c229; decide
  · skip
    intro l0 hps0 hll0 Ia hFIa hHIa h3Ia
    have hP0 := PS.of hHIa (pParse_ok hps0) (by omega)
    change X _ _ _ _ _ _ _ _ _ _
    refine x_if_eq 246 232 dX1_isGood_229 (by decide) rfl (fun c229 => ?_) (fun c229 => ?_)
    · skip
      exfalso; revert c229; decide
    · skip
      refine x_aload_n 233 dX1_isGood_232 rfl rfl ?_
      refine x_getz 236 dX1_isGood_233 rfl fl_X1_76 (hk.l0 (by omega)) (hk.z0_23 (by omega)) ?_
      refine x_callV (as := []) (rest := []) (i := 0) (n' := n - 1) 239 dX1_isGood_236 rfl mv_X1_520 rfl rfl (hk.l4 (by omega)) (xnh rfl) (by omega) (xst (Nat.le_of_ble_eq_true rfl)) (c_X5_hasLast (I := Ia) hk (by omega) hP0 (by omega) ?_)
      change X _ _ _ _ _ _ _ _ _ _
      refine x_if_eq 246 242 dX1_isGood_239 (by decide) rfl (fun c239 => ?_) (fun c239 => ?_)
      · skip
        have c239 : ¬ (pLast (Ia 27 0) l0.length (lF l0) (lG l0)) := b2i_0.mp c239
        refine x_iconst (v := 0) 247 dX1_isGood_246 rfl rfl ?_
        refine x_zreturn dX1_isGood_247 rfl (Or.inl rfl) ?_
        exact hq0 (fun ⟨_, l, h, h2⟩ => by rw [hps0] at h; cases h; exact c239 (by rw [hFIa.tp]; exact h2)) Ia hFIa.f2
      · skip
        have c239 : pLast (Ia 27 0) l0.length (lF l0) (lG l0) := b2i_n0.mp c239
        refine x_iconst (v := 1) 243 dX1_isGood_242 rfl rfl ?_
        refine x_goto 247 dX1_isGood_243 (by decide) ?_
        refine x_zreturn dX1_isGood_247 rfl (Or.inr rfl) ?_
        exact hq1 (trivial) l0 Ia hFIa.f2 ⟨hps0, hP0, h3Ia⟩ (by rw [← hFIa.tp]; exact c239)
set_option maxHeartbeats 400000 in
set_option maxRecDepth 100000 in
theorem c_X1_isGood_9 {G : xG} {n : Nat} {Q : Outcome → xS → Prop} {I : xI} {J : xJ} {R Z : xR} {T : xT} {N B : Nat} (hk : KS Z T N B) {va vb : Int32} {e : Nat} (he : e ≤ 256) (hn : 4 ≤ n) (hq0 : (¬ ((True) ∧ ∃ l, pParse (I 27 0) 0 e = some l ∧ pLast (I 27 0) l.length (lF l) (lG l))) → ∀ I' : xI, pF2 I I' → Q (.returned (some (.int 0))) (I', J, R, Z, T)) (hq1 : (True) → ∀ l I', pF2 I I' → pGot I I' 0 0 e l → pLast (I 27 0) l.length (lF l) (lG l) → Q (.returned (some (.int 1))) (I', J, R, Z, T)) : xCall G mX1_isGood n [.ref (T.ad 0 0), .int 9, .int va, .int vb, .int (nI e)] (I, J, R, Z, T) Q := by
  refine x_met (L0 := [(1, .ref (T.ad 0 0)), (1, .int 9), (1, .int va), (1, .int vb), (1, .int (nI e))]) (by decide +kernel) rfl ⟨Nat.le_of_ble_eq_true rfl, rfl⟩ ?_
  refine x_iload_n 1 dX1_isGood_0 rfl rfl ?_
  refine x_tin 9 219 dX1_isGood_1 rfl (by decide) (by decide) rfl (by decide) ?_
  refine x_aload_n 220 dX1_isGood_219 rfl rfl ?_
  refine x_getz 223 dX1_isGood_220 rfl fl_X1_76 (hk.l0 (by omega)) (hk.z0_23 (by omega)) ?_
  refine x_iconst (v := 0) 224 dX1_isGood_223 rfl rfl ?_
  refine x_iload 226 dX1_isGood_224 rfl rfl ?_
  refine x_callV (as := [.int (nI 0), .int (nI e)]) (rest := []) (i := 0) (n' := n - 1) 229 dX1_isGood_226 rfl mv_X1_517 rfl rfl (hk.l4 (by omega)) (xnh rfl) (by omega) (xst (Nat.le_of_ble_eq_true rfl)) (c_X5_read (i := 0) (s := 0) (e := e) hk (by omega) (by omega) (by omega) (by omega) ?_ ?_)
  · skip
    intro hpn0 Ia hFIa
    change X _ _ _ _ _ _ _ _ _ _
    refine x_if_eq 246 232 dX1_isGood_229 (by decide) rfl (fun c229 => ?_) (fun c229 => ?_)
    · skip
      refine x_iconst (v := 0) 247 dX1_isGood_246 rfl rfl ?_
      refine x_zreturn dX1_isGood_247 rfl (Or.inl rfl) ?_
      exact hq0 (fun ⟨_, l, h, _⟩ => by rw [hpn0] at h; cases h) Ia hFIa.f2
    · skip
      exfalso; revert c229; decide
  · skip
    intro l0 hps0 hll0 Ia hFIa hHIa h3Ia
    have hP0 := PS.of hHIa (pParse_ok hps0) (by omega)
    change X _ _ _ _ _ _ _ _ _ _
    refine x_if_eq 246 232 dX1_isGood_229 (by decide) rfl (fun c229 => ?_) (fun c229 => ?_)
    · skip
      exfalso; revert c229; decide
    · skip
      refine x_aload_n 233 dX1_isGood_232 rfl rfl ?_
      refine x_getz 236 dX1_isGood_233 rfl fl_X1_76 (hk.l0 (by omega)) (hk.z0_23 (by omega)) ?_
      refine x_callV (as := []) (rest := []) (i := 0) (n' := n - 1) 239 dX1_isGood_236 rfl mv_X1_520 rfl rfl (hk.l4 (by omega)) (xnh rfl) (by omega) (xst (Nat.le_of_ble_eq_true rfl)) (c_X5_hasLast (I := Ia) hk (by omega) hP0 (by omega) ?_)
      change X _ _ _ _ _ _ _ _ _ _
      refine x_if_eq 246 242 dX1_isGood_239 (by decide) rfl (fun c239 => ?_) (fun c239 => ?_)
      · skip
        have c239 : ¬ (pLast (Ia 27 0) l0.length (lF l0) (lG l0)) := b2i_0.mp c239
        refine x_iconst (v := 0) 247 dX1_isGood_246 rfl rfl ?_
        refine x_zreturn dX1_isGood_247 rfl (Or.inl rfl) ?_
        exact hq0 (fun ⟨_, l, h, h2⟩ => by rw [hps0] at h; cases h; exact c239 (by rw [hFIa.tp]; exact h2)) Ia hFIa.f2
      · skip
        have c239 : pLast (Ia 27 0) l0.length (lF l0) (lG l0) := b2i_n0.mp c239
        refine x_iconst (v := 1) 243 dX1_isGood_242 rfl rfl ?_
        refine x_goto 247 dX1_isGood_243 (by decide) ?_
        refine x_zreturn dX1_isGood_247 rfl (Or.inr rfl) ?_
        exact hq1 (trivial) l0 Ia hFIa.f2 ⟨hps0, hP0, h3Ia⟩ (by rw [← hFIa.tp]; exact c239)
set_option maxHeartbeats 400000 in
set_option maxRecDepth 100000 in
theorem c_X1_isGood_10 {G : xG} {n : Nat} {Q : Outcome → xS → Prop} {I : xI} {J : xJ} {R Z : xR} {T : xT} {N B : Nat} (hk : KS Z T N B) {va vb : Int32} {e : Nat} (he : e ≤ 256) (hn : 4 ≤ n) (hq0 : (¬ ((True) ∧ ∃ l, pParse (I 27 0) 0 e = some l ∧ pLast (I 27 0) l.length (lF l) (lG l))) → ∀ I' : xI, pF2 I I' → Q (.returned (some (.int 0))) (I', J, R, Z, T)) (hq1 : (True) → ∀ l I', pF2 I I' → pGot I I' 0 0 e l → pLast (I 27 0) l.length (lF l) (lG l) → Q (.returned (some (.int 1))) (I', J, R, Z, T)) : xCall G mX1_isGood n [.ref (T.ad 0 0), .int 10, .int va, .int vb, .int (nI e)] (I, J, R, Z, T) Q := by
  refine x_met (L0 := [(1, .ref (T.ad 0 0)), (1, .int 10), (1, .int va), (1, .int vb), (1, .int (nI e))]) (by decide +kernel) rfl ⟨Nat.le_of_ble_eq_true rfl, rfl⟩ ?_
  refine x_iload_n 1 dX1_isGood_0 rfl rfl ?_
  refine x_tin 10 219 dX1_isGood_1 rfl (by decide) (by decide) rfl (by decide) ?_
  refine x_aload_n 220 dX1_isGood_219 rfl rfl ?_
  refine x_getz 223 dX1_isGood_220 rfl fl_X1_76 (hk.l0 (by omega)) (hk.z0_23 (by omega)) ?_
  refine x_iconst (v := 0) 224 dX1_isGood_223 rfl rfl ?_
  refine x_iload 226 dX1_isGood_224 rfl rfl ?_
  refine x_callV (as := [.int (nI 0), .int (nI e)]) (rest := []) (i := 0) (n' := n - 1) 229 dX1_isGood_226 rfl mv_X1_517 rfl rfl (hk.l4 (by omega)) (xnh rfl) (by omega) (xst (Nat.le_of_ble_eq_true rfl)) (c_X5_read (i := 0) (s := 0) (e := e) hk (by omega) (by omega) (by omega) (by omega) ?_ ?_)
  · skip
    intro hpn0 Ia hFIa
    change X _ _ _ _ _ _ _ _ _ _
    refine x_if_eq 246 232 dX1_isGood_229 (by decide) rfl (fun c229 => ?_) (fun c229 => ?_)
    · skip
      refine x_iconst (v := 0) 247 dX1_isGood_246 rfl rfl ?_
      refine x_zreturn dX1_isGood_247 rfl (Or.inl rfl) ?_
      exact hq0 (fun ⟨_, l, h, _⟩ => by rw [hpn0] at h; cases h) Ia hFIa.f2
    · skip
      exfalso; revert c229; decide
  · skip
    intro l0 hps0 hll0 Ia hFIa hHIa h3Ia
    have hP0 := PS.of hHIa (pParse_ok hps0) (by omega)
    change X _ _ _ _ _ _ _ _ _ _
    refine x_if_eq 246 232 dX1_isGood_229 (by decide) rfl (fun c229 => ?_) (fun c229 => ?_)
    · skip
      exfalso; revert c229; decide
    · skip
      refine x_aload_n 233 dX1_isGood_232 rfl rfl ?_
      refine x_getz 236 dX1_isGood_233 rfl fl_X1_76 (hk.l0 (by omega)) (hk.z0_23 (by omega)) ?_
      refine x_callV (as := []) (rest := []) (i := 0) (n' := n - 1) 239 dX1_isGood_236 rfl mv_X1_520 rfl rfl (hk.l4 (by omega)) (xnh rfl) (by omega) (xst (Nat.le_of_ble_eq_true rfl)) (c_X5_hasLast (I := Ia) hk (by omega) hP0 (by omega) ?_)
      change X _ _ _ _ _ _ _ _ _ _
      refine x_if_eq 246 242 dX1_isGood_239 (by decide) rfl (fun c239 => ?_) (fun c239 => ?_)
      · skip
        have c239 : ¬ (pLast (Ia 27 0) l0.length (lF l0) (lG l0)) := b2i_0.mp c239
        refine x_iconst (v := 0) 247 dX1_isGood_246 rfl rfl ?_
        refine x_zreturn dX1_isGood_247 rfl (Or.inl rfl) ?_
        exact hq0 (fun ⟨_, l, h, h2⟩ => by rw [hps0] at h; cases h; exact c239 (by rw [hFIa.tp]; exact h2)) Ia hFIa.f2
      · skip
        have c239 : pLast (Ia 27 0) l0.length (lF l0) (lG l0) := b2i_n0.mp c239
        refine x_iconst (v := 1) 243 dX1_isGood_242 rfl rfl ?_
        refine x_goto 247 dX1_isGood_243 (by decide) ?_
        refine x_zreturn dX1_isGood_247 rfl (Or.inr rfl) ?_
        exact hq1 (trivial) l0 Ia hFIa.f2 ⟨hps0, hP0, h3Ia⟩ (by rw [← hFIa.tp]; exact c239)
set_option maxHeartbeats 400000 in
set_option maxRecDepth 100000 in
theorem c_X1_isGood_14 {G : xG} {n : Nat} {Q : Outcome → xS → Prop} {I : xI} {J : xJ} {R Z : xR} {T : xT} {N B : Nat} (hk : KS Z T N B) {va vb : Int32} {e : Nat} (he : e ≤ 256) (hn : 4 ≤ n) (hq0 : (¬ ((True) ∧ ∃ l, pParse (I 27 0) 0 e = some l ∧ True)) → ∀ I' : xI, pF2 I I' → Q (.returned (some (.int 0))) (I', J, R, Z, T)) (hq1 : (True) → ∀ l I', pF2 I I' → pGot I I' 0 0 e l → True → Q (.returned (some (.int 1))) (I', J, R, Z, T)) : xCall G mX1_isGood n [.ref (T.ad 0 0), .int 14, .int va, .int vb, .int (nI e)] (I, J, R, Z, T) Q := by
  refine x_met (L0 := [(1, .ref (T.ad 0 0)), (1, .int 14), (1, .int va), (1, .int vb), (1, .int (nI e))]) (by decide +kernel) rfl ⟨Nat.le_of_ble_eq_true rfl, rfl⟩ ?_
  refine x_iload_n 1 dX1_isGood_0 rfl rfl ?_
  refine x_tin 14 317 dX1_isGood_1 rfl (by decide) (by decide) rfl (by decide) ?_
  refine x_aload_n 318 dX1_isGood_317 rfl rfl ?_
  refine x_getz 321 dX1_isGood_318 rfl fl_X1_76 (hk.l0 (by omega)) (hk.z0_23 (by omega)) ?_
  refine x_iconst (v := 0) 322 dX1_isGood_321 rfl rfl ?_
  refine x_iload 324 dX1_isGood_322 rfl rfl ?_
  refine x_callV (as := [.int (nI 0), .int (nI e)]) (rest := []) (i := 0) (n' := n - 1) 327 dX1_isGood_324 rfl mv_X1_517 rfl rfl (hk.l4 (by omega)) (xnh rfl) (by omega) (xst (Nat.le_of_ble_eq_true rfl)) (c_X5_read (i := 0) (s := 0) (e := e) hk (by omega) (by omega) (by omega) (by omega) ?_ ?_)
  · skip
    intro hpn0 Ia hFIa
    change X _ _ _ _ _ _ _ _ _ _
    refine x_zreturn dX1_isGood_327 rfl (Or.inl rfl) ?_
    exact hq0 (fun ⟨_, l, h, _⟩ => by rw [hpn0] at h; cases h) Ia hFIa.f2
  · skip
    intro l0 hps0 hll0 Ia hFIa hHIa h3Ia
    have hP0 := PS.of hHIa (pParse_ok hps0) (by omega)
    change X _ _ _ _ _ _ _ _ _ _
    refine x_zreturn dX1_isGood_327 rfl (Or.inr rfl) ?_
    exact hq1 (trivial) l0 Ia hFIa.f2 ⟨hps0, hP0, h3Ia⟩ (trivial)
set_option maxHeartbeats 400000 in
set_option maxRecDepth 100000 in
theorem c_X1_isGood_15 {G : xG} {n : Nat} {Q : Outcome → xS → Prop} {I : xI} {J : xJ} {R Z : xR} {T : xT} {N B : Nat} (hk : KS Z T N B) {va vb : Int32} {e : Nat} (he : e ≤ 256) (hn : 4 ≤ n) (hq0 : (¬ ((True) ∧ ∃ l, pParse (I 27 0) 0 e = some l ∧ True)) → ∀ I' : xI, pF2 I I' → Q (.returned (some (.int 0))) (I', J, R, Z, T)) (hq1 : (True) → ∀ l I', pF2 I I' → pGot I I' 0 0 e l → True → Q (.returned (some (.int 1))) (I', J, R, Z, T)) : xCall G mX1_isGood n [.ref (T.ad 0 0), .int 15, .int va, .int vb, .int (nI e)] (I, J, R, Z, T) Q := by
  refine x_met (L0 := [(1, .ref (T.ad 0 0)), (1, .int 15), (1, .int va), (1, .int vb), (1, .int (nI e))]) (by decide +kernel) rfl ⟨Nat.le_of_ble_eq_true rfl, rfl⟩ ?_
  refine x_iload_n 1 dX1_isGood_0 rfl rfl ?_
  refine x_tin 15 317 dX1_isGood_1 rfl (by decide) (by decide) rfl (by decide) ?_
  refine x_aload_n 318 dX1_isGood_317 rfl rfl ?_
  refine x_getz 321 dX1_isGood_318 rfl fl_X1_76 (hk.l0 (by omega)) (hk.z0_23 (by omega)) ?_
  refine x_iconst (v := 0) 322 dX1_isGood_321 rfl rfl ?_
  refine x_iload 324 dX1_isGood_322 rfl rfl ?_
  refine x_callV (as := [.int (nI 0), .int (nI e)]) (rest := []) (i := 0) (n' := n - 1) 327 dX1_isGood_324 rfl mv_X1_517 rfl rfl (hk.l4 (by omega)) (xnh rfl) (by omega) (xst (Nat.le_of_ble_eq_true rfl)) (c_X5_read (i := 0) (s := 0) (e := e) hk (by omega) (by omega) (by omega) (by omega) ?_ ?_)
  · skip
    intro hpn0 Ia hFIa
    change X _ _ _ _ _ _ _ _ _ _
    refine x_zreturn dX1_isGood_327 rfl (Or.inl rfl) ?_
    exact hq0 (fun ⟨_, l, h, _⟩ => by rw [hpn0] at h; cases h) Ia hFIa.f2
  · skip
    intro l0 hps0 hll0 Ia hFIa hHIa h3Ia
    have hP0 := PS.of hHIa (pParse_ok hps0) (by omega)
    change X _ _ _ _ _ _ _ _ _ _
    refine x_zreturn dX1_isGood_327 rfl (Or.inr rfl) ?_
    exact hq1 (trivial) l0 Ia hFIa.f2 ⟨hps0, hP0, h3Ia⟩ (trivial)
set_option maxHeartbeats 400000 in
set_option maxRecDepth 100000 in
theorem c_X1_isGood_13 {G : xG} {n : Nat} {Q : Outcome → xS → Prop} {I : xI} {J : xJ} {R Z : xR} {T : xT} {N B : Nat} (hk : KS Z T N B) {va vb : Int32} {e : Nat} (he : e ≤ 256) (hn : 4 ≤ n) (hq0 : (¬ ((0 ≤ va ∧ va ≤ 2) ∧ ∃ l, pParse (I 27 0) 0 e = some l ∧ True)) → ∀ I' : xI, pF2 I I' → Q (.returned (some (.int 0))) (I', J, R, Z, T)) (hq1 : (0 ≤ va ∧ va ≤ 2) → ∀ l I', pF2 I I' → pGot I I' 0 0 e l → True → Q (.returned (some (.int 1))) (I', J, R, Z, T)) : xCall G mX1_isGood n [.ref (T.ad 0 0), .int 13, .int va, .int vb, .int (nI e)] (I, J, R, Z, T) Q := by
  refine x_met (L0 := [(1, .ref (T.ad 0 0)), (1, .int 13), (1, .int va), (1, .int vb), (1, .int (nI e))]) (by decide +kernel) rfl ⟨Nat.le_of_ble_eq_true rfl, rfl⟩ ?_
  refine x_iload_n 1 dX1_isGood_0 rfl rfl ?_
  refine x_tin 13 289 dX1_isGood_1 rfl (by decide) (by decide) rfl (by decide) ?_
  refine x_iload_n 290 dX1_isGood_289 rfl rfl ?_
  refine x_iconst (v := 0) 291 dX1_isGood_290 rfl rfl ?_
  refine x_iconst (v := 2) 292 dX1_isGood_291 rfl rfl ?_
  refine x_callS (as := [.int va, .int 0, .int 2]) (rest := []) (n' := n - 1) 295 dX1_isGood_292 rfl ms_X1_211 rfl rfl (xnh rfl) (by omega) (xst (Nat.le_of_ble_eq_true rfl)) (c_X1_isIn (by omega) ?_)
  change X _ _ _ _ _ _ _ _ _ _
  refine x_if_eq 315 298 dX1_isGood_295 (by decide) rfl (fun c295 => ?_) (fun c295 => ?_)
  · skip
    have c295 : ¬ (0 ≤ va ∧ va ≤ 2) := b2i_0.mp c295
    refine x_iconst (v := 0) 316 dX1_isGood_315 rfl rfl ?_
    refine x_zreturn dX1_isGood_316 rfl (Or.inl rfl) ?_
    exact hq0 (fun h => c295 h.1) I pF2.rfl
  · skip
    have c295 : 0 ≤ va ∧ va ≤ 2 := b2i_n0.mp c295
    refine x_aload_n 299 dX1_isGood_298 rfl rfl ?_
    refine x_getz 302 dX1_isGood_299 rfl fl_X1_76 (hk.l0 (by omega)) (hk.z0_23 (by omega)) ?_
    refine x_iconst (v := 0) 303 dX1_isGood_302 rfl rfl ?_
    refine x_iload 305 dX1_isGood_303 rfl rfl ?_
    refine x_callV (as := [.int (nI 0), .int (nI e)]) (rest := []) (i := 0) (n' := n - 1) 308 dX1_isGood_305 rfl mv_X1_517 rfl rfl (hk.l4 (by omega)) (xnh rfl) (by omega) (xst (Nat.le_of_ble_eq_true rfl)) (c_X5_read (i := 0) (s := 0) (e := e) hk (by omega) (by omega) (by omega) (by omega) ?_ ?_)
    · skip
      intro hpn0 Ia hFIa
      change X _ _ _ _ _ _ _ _ _ _
      refine x_if_eq 315 311 dX1_isGood_308 (by decide) rfl (fun c308 => ?_) (fun c308 => ?_)
      · skip
        refine x_iconst (v := 0) 316 dX1_isGood_315 rfl rfl ?_
        refine x_zreturn dX1_isGood_316 rfl (Or.inl rfl) ?_
        exact hq0 (fun ⟨_, l, h, _⟩ => by rw [hpn0] at h; cases h) Ia hFIa.f2
      · skip
        exfalso; revert c308; decide
    · skip
      intro l0 hps0 hll0 Ia hFIa hHIa h3Ia
      have hP0 := PS.of hHIa (pParse_ok hps0) (by omega)
      change X _ _ _ _ _ _ _ _ _ _
      refine x_if_eq 315 311 dX1_isGood_308 (by decide) rfl (fun c308 => ?_) (fun c308 => ?_)
      · skip
        exfalso; revert c308; decide
      · skip
        refine x_iconst (v := 1) 312 dX1_isGood_311 rfl rfl ?_
        refine x_goto 316 dX1_isGood_312 (by decide) ?_
        refine x_zreturn dX1_isGood_316 rfl (Or.inr rfl) ?_
        exact hq1 (c295) l0 Ia hFIa.f2 ⟨hps0, hP0, h3Ia⟩ (trivial)
set_option maxHeartbeats 400000 in
set_option maxRecDepth 100000 in
theorem c_X1_isGood_0 {G : xG} {n : Nat} {Q : Outcome → xS → Prop} {I : xI} {J : xJ} {R Z : xR} {T : xT} {N B : Nat} (hk : KS Z T N B) {va vb : Int32} {e : Nat} (he : e ≤ 256) (hn : 4 ≤ n) (hq0 : (¬ (((0 ≤ va ∧ va ≤ 63) ∧ ¬ va &&& 3 ≤ 0 ∧ (va &&& 8 = 0 ∨ ¬ va &&& 4 ≤ 0) ∧ (va &&& 48 = 0 ∨ ¬ va &&& 2 ≤ 0)) ∧ ∃ l, pParse (I 27 0) 0 e = some l ∧ True)) → ∀ I' : xI, pF2 I I' → Q (.returned (some (.int 0))) (I', J, R, Z, T)) (hq1 : ((0 ≤ va ∧ va ≤ 63) ∧ ¬ va &&& 3 ≤ 0 ∧ (va &&& 8 = 0 ∨ ¬ va &&& 4 ≤ 0) ∧ (va &&& 48 = 0 ∨ ¬ va &&& 2 ≤ 0)) → ∀ l I', pF2 I I' → pGot I I' 0 0 e l → True → Q (.returned (some (.int 1))) (I', J, R, Z, T)) : xCall G mX1_isGood n [.ref (T.ad 0 0), .int 0, .int va, .int vb, .int (nI e)] (I, J, R, Z, T) Q := by
  refine x_met (L0 := [(1, .ref (T.ad 0 0)), (1, .int 0), (1, .int va), (1, .int vb), (1, .int (nI e))]) (by decide +kernel) rfl ⟨Nat.le_of_ble_eq_true rfl, rfl⟩ ?_
  refine x_iload_n 1 dX1_isGood_0 rfl rfl ?_
  refine x_tin 0 96 dX1_isGood_1 rfl (by decide) (by decide) rfl (by decide) ?_
  refine x_iload_n 97 dX1_isGood_96 rfl rfl ?_
  refine x_iconst (v := 0) 98 dX1_isGood_97 rfl rfl ?_
  refine x_bipush (v := 63) 100 dX1_isGood_98 rfl rfl ?_
  refine x_callS (as := [.int va, .int 0, .int 63]) (rest := []) (n' := n - 1) 103 dX1_isGood_100 rfl ms_X1_211 rfl rfl (xnh rfl) (by omega) (xst (Nat.le_of_ble_eq_true rfl)) (c_X1_isIn (by omega) ?_)
  change X _ _ _ _ _ _ _ _ _ _
  refine x_if_eq 155 106 dX1_isGood_103 (by decide) rfl (fun c103 => ?_) (fun c103 => ?_)
  · skip
    have c103 : ¬ (0 ≤ va ∧ va ≤ 63) := b2i_0.mp c103
    refine x_iconst (v := 0) 156 dX1_isGood_155 rfl rfl ?_
    refine x_zreturn dX1_isGood_156 rfl (Or.inl rfl) ?_
    exact hq0 (fun h => c103 h.1.1) I pF2.rfl
  · skip
    have c103 : 0 ≤ va ∧ va ≤ 63 := b2i_n0.mp c103
    refine x_iload_n 107 dX1_isGood_106 rfl rfl ?_
    refine x_iconst (v := 3) 108 dX1_isGood_107 rfl rfl ?_
    refine x_iand 109 dX1_isGood_108 rfl ?_
    refine x_if_le 155 112 dX1_isGood_109 (by decide) rfl (fun c109 => ?_) (fun c109 => ?_)
    · skip
      refine x_iconst (v := 0) 156 dX1_isGood_155 rfl rfl ?_
      refine x_zreturn dX1_isGood_156 rfl (Or.inl rfl) ?_
      exact hq0 (fun h => h.1.2.1 c109) I pF2.rfl
    · skip
      refine x_iload_n 113 dX1_isGood_112 rfl rfl ?_
      refine x_bipush (v := 8) 115 dX1_isGood_113 rfl rfl ?_
      refine x_iand 116 dX1_isGood_115 rfl ?_
      refine x_if_eq 125 119 dX1_isGood_116 (by decide) rfl (fun c116 => ?_) (fun c116 => ?_)
      · skip
        refine x_iload_n 126 dX1_isGood_125 rfl rfl ?_
        refine x_bipush (v := 48) 128 dX1_isGood_126 rfl rfl ?_
        refine x_iand 129 dX1_isGood_128 rfl ?_
        refine x_if_eq 138 132 dX1_isGood_129 (by decide) rfl (fun c129 => ?_) (fun c129 => ?_)
        · skip
          refine x_aload_n 139 dX1_isGood_138 rfl rfl ?_
          refine x_getz 142 dX1_isGood_139 rfl fl_X1_76 (hk.l0 (by omega)) (hk.z0_23 (by omega)) ?_
          refine x_iconst (v := 0) 143 dX1_isGood_142 rfl rfl ?_
          refine x_iload 145 dX1_isGood_143 rfl rfl ?_
          refine x_callV (as := [.int (nI 0), .int (nI e)]) (rest := []) (i := 0) (n' := n - 1) 148 dX1_isGood_145 rfl mv_X1_517 rfl rfl (hk.l4 (by omega)) (xnh rfl) (by omega) (xst (Nat.le_of_ble_eq_true rfl)) (c_X5_read (i := 0) (s := 0) (e := e) hk (by omega) (by omega) (by omega) (by omega) ?_ ?_)
          · skip
            intro hpn0 Ia hFIa
            change X _ _ _ _ _ _ _ _ _ _
            refine x_if_eq 155 151 dX1_isGood_148 (by decide) rfl (fun c148 => ?_) (fun c148 => ?_)
            · skip
              refine x_iconst (v := 0) 156 dX1_isGood_155 rfl rfl ?_
              refine x_zreturn dX1_isGood_156 rfl (Or.inl rfl) ?_
              exact hq0 (fun ⟨_, l, h, _⟩ => by rw [hpn0] at h; cases h) Ia hFIa.f2
            · skip
              exfalso; revert c148; decide
          · skip
            intro l0 hps0 hll0 Ia hFIa hHIa h3Ia
            have hP0 := PS.of hHIa (pParse_ok hps0) (by omega)
            change X _ _ _ _ _ _ _ _ _ _
            refine x_if_eq 155 151 dX1_isGood_148 (by decide) rfl (fun c148 => ?_) (fun c148 => ?_)
            · skip
              exfalso; revert c148; decide
            · skip
              refine x_iconst (v := 1) 152 dX1_isGood_151 rfl rfl ?_
              refine x_goto 156 dX1_isGood_152 (by decide) ?_
              refine x_zreturn dX1_isGood_156 rfl (Or.inr rfl) ?_
              exact hq1 (⟨c103, c109, Or.inl c116, Or.inl c129⟩) l0 Ia hFIa.f2 ⟨hps0, hP0, h3Ia⟩ (trivial)
        · skip
          refine x_iload_n 133 dX1_isGood_132 rfl rfl ?_
          refine x_iconst (v := 2) 134 dX1_isGood_133 rfl rfl ?_
          refine x_iand 135 dX1_isGood_134 rfl ?_
          refine x_if_le 155 138 dX1_isGood_135 (by decide) rfl (fun c135 => ?_) (fun c135 => ?_)
          · skip
            refine x_iconst (v := 0) 156 dX1_isGood_155 rfl rfl ?_
            refine x_zreturn dX1_isGood_156 rfl (Or.inl rfl) ?_
            exact hq0 (fun h => h.1.2.2.2.elim c129 (fun g => g c135)) I pF2.rfl
          · skip
            refine x_aload_n 139 dX1_isGood_138 rfl rfl ?_
            refine x_getz 142 dX1_isGood_139 rfl fl_X1_76 (hk.l0 (by omega)) (hk.z0_23 (by omega)) ?_
            refine x_iconst (v := 0) 143 dX1_isGood_142 rfl rfl ?_
            refine x_iload 145 dX1_isGood_143 rfl rfl ?_
            refine x_callV (as := [.int (nI 0), .int (nI e)]) (rest := []) (i := 0) (n' := n - 1) 148 dX1_isGood_145 rfl mv_X1_517 rfl rfl (hk.l4 (by omega)) (xnh rfl) (by omega) (xst (Nat.le_of_ble_eq_true rfl)) (c_X5_read (i := 0) (s := 0) (e := e) hk (by omega) (by omega) (by omega) (by omega) ?_ ?_)
            · skip
              intro hpn0 Ia hFIa
              change X _ _ _ _ _ _ _ _ _ _
              refine x_if_eq 155 151 dX1_isGood_148 (by decide) rfl (fun c148 => ?_) (fun c148 => ?_)
              · skip
                refine x_iconst (v := 0) 156 dX1_isGood_155 rfl rfl ?_
                refine x_zreturn dX1_isGood_156 rfl (Or.inl rfl) ?_
                exact hq0 (fun ⟨_, l, h, _⟩ => by rw [hpn0] at h; cases h) Ia hFIa.f2
              · skip
                exfalso; revert c148; decide
            · skip
              intro l0 hps0 hll0 Ia hFIa hHIa h3Ia
              have hP0 := PS.of hHIa (pParse_ok hps0) (by omega)
              change X _ _ _ _ _ _ _ _ _ _
              refine x_if_eq 155 151 dX1_isGood_148 (by decide) rfl (fun c148 => ?_) (fun c148 => ?_)
              · skip
                exfalso; revert c148; decide
              · skip
                refine x_iconst (v := 1) 152 dX1_isGood_151 rfl rfl ?_
                refine x_goto 156 dX1_isGood_152 (by decide) ?_
                refine x_zreturn dX1_isGood_156 rfl (Or.inr rfl) ?_
                exact hq1 (⟨c103, c109, Or.inl c116, Or.inr c135⟩) l0 Ia hFIa.f2 ⟨hps0, hP0, h3Ia⟩ (trivial)
      · skip
        refine x_iload_n 120 dX1_isGood_119 rfl rfl ?_
        refine x_iconst (v := 4) 121 dX1_isGood_120 rfl rfl ?_
        refine x_iand 122 dX1_isGood_121 rfl ?_
        refine x_if_le 155 125 dX1_isGood_122 (by decide) rfl (fun c122 => ?_) (fun c122 => ?_)
        · skip
          refine x_iconst (v := 0) 156 dX1_isGood_155 rfl rfl ?_
          refine x_zreturn dX1_isGood_156 rfl (Or.inl rfl) ?_
          exact hq0 (fun h => h.1.2.2.1.elim c116 (fun g => g c122)) I pF2.rfl
        · skip
          refine x_iload_n 126 dX1_isGood_125 rfl rfl ?_
          refine x_bipush (v := 48) 128 dX1_isGood_126 rfl rfl ?_
          refine x_iand 129 dX1_isGood_128 rfl ?_
          refine x_if_eq 138 132 dX1_isGood_129 (by decide) rfl (fun c129 => ?_) (fun c129 => ?_)
          · skip
            refine x_aload_n 139 dX1_isGood_138 rfl rfl ?_
            refine x_getz 142 dX1_isGood_139 rfl fl_X1_76 (hk.l0 (by omega)) (hk.z0_23 (by omega)) ?_
            refine x_iconst (v := 0) 143 dX1_isGood_142 rfl rfl ?_
            refine x_iload 145 dX1_isGood_143 rfl rfl ?_
            refine x_callV (as := [.int (nI 0), .int (nI e)]) (rest := []) (i := 0) (n' := n - 1) 148 dX1_isGood_145 rfl mv_X1_517 rfl rfl (hk.l4 (by omega)) (xnh rfl) (by omega) (xst (Nat.le_of_ble_eq_true rfl)) (c_X5_read (i := 0) (s := 0) (e := e) hk (by omega) (by omega) (by omega) (by omega) ?_ ?_)
            · skip
              intro hpn0 Ia hFIa
              change X _ _ _ _ _ _ _ _ _ _
              refine x_if_eq 155 151 dX1_isGood_148 (by decide) rfl (fun c148 => ?_) (fun c148 => ?_)
              · skip
                refine x_iconst (v := 0) 156 dX1_isGood_155 rfl rfl ?_
                refine x_zreturn dX1_isGood_156 rfl (Or.inl rfl) ?_
                exact hq0 (fun ⟨_, l, h, _⟩ => by rw [hpn0] at h; cases h) Ia hFIa.f2
              · skip
                exfalso; revert c148; decide
            · skip
              intro l0 hps0 hll0 Ia hFIa hHIa h3Ia
              have hP0 := PS.of hHIa (pParse_ok hps0) (by omega)
              change X _ _ _ _ _ _ _ _ _ _
              refine x_if_eq 155 151 dX1_isGood_148 (by decide) rfl (fun c148 => ?_) (fun c148 => ?_)
              · skip
                exfalso; revert c148; decide
              · skip
                refine x_iconst (v := 1) 152 dX1_isGood_151 rfl rfl ?_
                refine x_goto 156 dX1_isGood_152 (by decide) ?_
                refine x_zreturn dX1_isGood_156 rfl (Or.inr rfl) ?_
                exact hq1 (⟨c103, c109, Or.inr c122, Or.inl c129⟩) l0 Ia hFIa.f2 ⟨hps0, hP0, h3Ia⟩ (trivial)
          · skip
            refine x_iload_n 133 dX1_isGood_132 rfl rfl ?_
            refine x_iconst (v := 2) 134 dX1_isGood_133 rfl rfl ?_
            refine x_iand 135 dX1_isGood_134 rfl ?_
            refine x_if_le 155 138 dX1_isGood_135 (by decide) rfl (fun c135 => ?_) (fun c135 => ?_)
            · skip
              refine x_iconst (v := 0) 156 dX1_isGood_155 rfl rfl ?_
              refine x_zreturn dX1_isGood_156 rfl (Or.inl rfl) ?_
              exact hq0 (fun h => h.1.2.2.2.elim c129 (fun g => g c135)) I pF2.rfl
            · skip
              refine x_aload_n 139 dX1_isGood_138 rfl rfl ?_
              refine x_getz 142 dX1_isGood_139 rfl fl_X1_76 (hk.l0 (by omega)) (hk.z0_23 (by omega)) ?_
              refine x_iconst (v := 0) 143 dX1_isGood_142 rfl rfl ?_
              refine x_iload 145 dX1_isGood_143 rfl rfl ?_
              refine x_callV (as := [.int (nI 0), .int (nI e)]) (rest := []) (i := 0) (n' := n - 1) 148 dX1_isGood_145 rfl mv_X1_517 rfl rfl (hk.l4 (by omega)) (xnh rfl) (by omega) (xst (Nat.le_of_ble_eq_true rfl)) (c_X5_read (i := 0) (s := 0) (e := e) hk (by omega) (by omega) (by omega) (by omega) ?_ ?_)
              · skip
                intro hpn0 Ia hFIa
                change X _ _ _ _ _ _ _ _ _ _
                refine x_if_eq 155 151 dX1_isGood_148 (by decide) rfl (fun c148 => ?_) (fun c148 => ?_)
                · skip
                  refine x_iconst (v := 0) 156 dX1_isGood_155 rfl rfl ?_
                  refine x_zreturn dX1_isGood_156 rfl (Or.inl rfl) ?_
                  exact hq0 (fun ⟨_, l, h, _⟩ => by rw [hpn0] at h; cases h) Ia hFIa.f2
                · skip
                  exfalso; revert c148; decide
              · skip
                intro l0 hps0 hll0 Ia hFIa hHIa h3Ia
                have hP0 := PS.of hHIa (pParse_ok hps0) (by omega)
                change X _ _ _ _ _ _ _ _ _ _
                refine x_if_eq 155 151 dX1_isGood_148 (by decide) rfl (fun c148 => ?_) (fun c148 => ?_)
                · skip
                  exfalso; revert c148; decide
                · skip
                  refine x_iconst (v := 1) 152 dX1_isGood_151 rfl rfl ?_
                  refine x_goto 156 dX1_isGood_152 (by decide) ?_
                  refine x_zreturn dX1_isGood_156 rfl (Or.inr rfl) ?_
                  exact hq1 (⟨c103, c109, Or.inr c122, Or.inr c135⟩) l0 Ia hFIa.f2 ⟨hps0, hP0, h3Ia⟩ (trivial)
set_option maxHeartbeats 400000 in
set_option maxRecDepth 100000 in
theorem c_X1_isGood_11 {G : xG} {n : Nat} {Q : Outcome → xS → Prop} {I : xI} {J : xJ} {R Z : xR} {T : xT} {N B : Nat} (hk : KS Z T N B) {va vb : Int32} {e : Nat} (he : e ≤ 256) (hn : 4 ≤ n) (hq0 : (¬ ∃ l l2, kTwoP (I 27 0) e l l2 ∧ pLast (I 27 0) l2.length (lF l2) (lG l2)) → ∀ I' : xI, pF2 I I' → Q (.returned (some (.int 0))) (I', J, R, Z, T)) (hq1 : ∀ l l2 I', pF2 I I' → kGot2 I I' e l l2 → pLast (I 27 0) l2.length (lF l2) (lG l2) → Q (.returned (some (.int 1))) (I', J, R, Z, T)) : xCall G mX1_isGood n [.ref (T.ad 0 0), .int 11, .int va, .int vb, .int (nI e)] (I, J, R, Z, T) Q := by
  refine x_met (L0 := [(1, .ref (T.ad 0 0)), (1, .int 11), (1, .int va), (1, .int vb), (1, .int (nI e))]) (by decide +kernel) rfl ⟨Nat.le_of_ble_eq_true rfl, rfl⟩ ?_
  refine x_iload_n 1 dX1_isGood_0 rfl rfl ?_
  refine x_tin 11 248 dX1_isGood_1 rfl (by decide) (by decide) rfl (by decide) ?_
  refine x_aload_n 249 dX1_isGood_248 rfl rfl ?_
  refine x_iload 251 dX1_isGood_249 rfl rfl ?_
  refine x_callV (as := [.int (nI e)]) (rest := []) (i := 0) (n' := n - 1) 254 dX1_isGood_251 rfl mv_X1_523 rfl rfl (hk.l0 (by omega)) (xnh rfl) (by omega) (xst (Nat.le_of_ble_eq_true rfl)) (c_X1_areTwo hk he (by omega) ?_ ?_)
  · skip
    intro hno Ia hFIa
    change X _ _ _ _ _ _ _ _ _ _
    refine x_if_eq 287 257 dX1_isGood_254 (by decide) rfl (fun c254 => ?_) (fun c254 => ?_)
    · skip
      refine x_iconst (v := 0) 288 dX1_isGood_287 rfl rfl ?_
      refine x_zreturn dX1_isGood_288 rfl (Or.inl rfl) ?_
      exact hq0 (fun ⟨l, l2, h, _⟩ => hno ⟨l, l2, h⟩) Ia hFIa
    · skip
      exfalso; revert c254; decide
  · skip
    intro l0 l1 Ia hFIa hG
    change X _ _ _ _ _ _ _ _ _ _
    refine x_if_eq 287 257 dX1_isGood_254 (by decide) rfl (fun c254 => ?_) (fun c254 => ?_)
    · skip
      exfalso; revert c254; decide
    · skip
      refine x_aload_n 258 dX1_isGood_257 rfl rfl ?_
      refine x_getz 261 dX1_isGood_258 rfl fl_X1_80 (hk.l0 (by omega)) (hk.z0_24 (by omega)) ?_
      refine x_callV (as := []) (rest := []) (i := 1) (n' := n - 1) 264 dX1_isGood_261 rfl mv_X1_520 rfl rfl (hk.l4 (by omega)) (xnh rfl) (by omega) (xst (Nat.le_of_ble_eq_true rfl)) (c_X5_hasLast (I := Ia) hk (by omega) hG.2.2.2.1 (by omega) ?_)
      change X _ _ _ _ _ _ _ _ _ _
      refine x_if_eq 287 267 dX1_isGood_264 (by decide) rfl (fun c264 => ?_) (fun c264 => ?_)
      · skip
        have c264 : ¬ (pLast (Ia 27 0) l1.length (lF l1) (lG l1)) := b2i_0.mp c264
        refine x_iconst (v := 0) 288 dX1_isGood_287 rfl rfl ?_
        refine x_zreturn dX1_isGood_288 rfl (Or.inl rfl) ?_
        exact hq0 (fun ⟨l, l2, h, h2⟩ => by
          have e0 : l = l0 := Option.some.inj (h.2.1.symm.trans hG.2.1.1)
          have e1 : l2 = l1 := Option.some.inj (h.2.2.symm.trans hG.2.2.1)
          subst e0; subst e1; exact c264 (by rw [hFIa.tp]; exact h2)) Ia hFIa
      · skip
        have c264 : pLast (Ia 27 0) l1.length (lF l1) (lG l1) := b2i_n0.mp c264
        refine x_iload_n 268 dX1_isGood_267 rfl rfl ?_
        refine x_bipush (v := 11) 270 dX1_isGood_268 rfl rfl ?_
        refine x_icmp_eq 283 273 dX1_isGood_270 (by decide) rfl (fun c270 => ?_) (fun c270 => ?_)
        · skip
          refine x_iconst (v := 1) 284 dX1_isGood_283 rfl rfl ?_
          refine x_goto 288 dX1_isGood_284 (by decide) ?_
          refine x_zreturn dX1_isGood_288 rfl (Or.inr rfl) ?_
          exact hq1 l0 l1 Ia hFIa hG (by rw [← hFIa.tp]; exact c264)
        · skip
          exfalso; revert c270; decide
set_option maxHeartbeats 400000 in
set_option maxRecDepth 100000 in
theorem c_X1_isGood_12 {G : xG} {n : Nat} {Q : Outcome → xS → Prop} {I : xI} {J : xJ} {R Z : xR} {T : xT} {N B : Nat} (hk : KS Z T N B) {va vb : Int32} {e : Nat} (he : e ≤ 256) (hn : 4 ≤ n) (hq0 : (¬ ∃ l l2, kTwoP (I 27 0) e l l2 ∧ pLast (I 27 0) l2.length (lF l2) (lG l2) ∧ pLast (I 27 0) l.length (lF l) (lG l)) → ∀ I' : xI, pF2 I I' → Q (.returned (some (.int 0))) (I', J, R, Z, T)) (hq1 : ∀ l l2 I', pF2 I I' → kGot2 I I' e l l2 → pLast (I 27 0) l2.length (lF l2) (lG l2) ∧ pLast (I 27 0) l.length (lF l) (lG l) → Q (.returned (some (.int 1))) (I', J, R, Z, T)) : xCall G mX1_isGood n [.ref (T.ad 0 0), .int 12, .int va, .int vb, .int (nI e)] (I, J, R, Z, T) Q := by
  refine x_met (L0 := [(1, .ref (T.ad 0 0)), (1, .int 12), (1, .int va), (1, .int vb), (1, .int (nI e))]) (by decide +kernel) rfl ⟨Nat.le_of_ble_eq_true rfl, rfl⟩ ?_
  refine x_iload_n 1 dX1_isGood_0 rfl rfl ?_
  refine x_tin 12 248 dX1_isGood_1 rfl (by decide) (by decide) rfl (by decide) ?_
  refine x_aload_n 249 dX1_isGood_248 rfl rfl ?_
  refine x_iload 251 dX1_isGood_249 rfl rfl ?_
  refine x_callV (as := [.int (nI e)]) (rest := []) (i := 0) (n' := n - 1) 254 dX1_isGood_251 rfl mv_X1_523 rfl rfl (hk.l0 (by omega)) (xnh rfl) (by omega) (xst (Nat.le_of_ble_eq_true rfl)) (c_X1_areTwo hk he (by omega) ?_ ?_)
  · skip
    intro hno Ia hFIa
    change X _ _ _ _ _ _ _ _ _ _
    refine x_if_eq 287 257 dX1_isGood_254 (by decide) rfl (fun c254 => ?_) (fun c254 => ?_)
    · skip
      refine x_iconst (v := 0) 288 dX1_isGood_287 rfl rfl ?_
      refine x_zreturn dX1_isGood_288 rfl (Or.inl rfl) ?_
      exact hq0 (fun ⟨l, l2, h, _⟩ => hno ⟨l, l2, h⟩) Ia hFIa
    · skip
      exfalso; revert c254; decide
  · skip
    intro l0 l1 Ia hFIa hG
    change X _ _ _ _ _ _ _ _ _ _
    refine x_if_eq 287 257 dX1_isGood_254 (by decide) rfl (fun c254 => ?_) (fun c254 => ?_)
    · skip
      exfalso; revert c254; decide
    · skip
      refine x_aload_n 258 dX1_isGood_257 rfl rfl ?_
      refine x_getz 261 dX1_isGood_258 rfl fl_X1_80 (hk.l0 (by omega)) (hk.z0_24 (by omega)) ?_
      refine x_callV (as := []) (rest := []) (i := 1) (n' := n - 1) 264 dX1_isGood_261 rfl mv_X1_520 rfl rfl (hk.l4 (by omega)) (xnh rfl) (by omega) (xst (Nat.le_of_ble_eq_true rfl)) (c_X5_hasLast (I := Ia) hk (by omega) hG.2.2.2.1 (by omega) ?_)
      change X _ _ _ _ _ _ _ _ _ _
      refine x_if_eq 287 267 dX1_isGood_264 (by decide) rfl (fun c264 => ?_) (fun c264 => ?_)
      · skip
        have c264 : ¬ (pLast (Ia 27 0) l1.length (lF l1) (lG l1)) := b2i_0.mp c264
        refine x_iconst (v := 0) 288 dX1_isGood_287 rfl rfl ?_
        refine x_zreturn dX1_isGood_288 rfl (Or.inl rfl) ?_
        exact hq0 (fun ⟨l, l2, h, h2⟩ => by
          have e0 : l = l0 := Option.some.inj (h.2.1.symm.trans hG.2.1.1)
          have e1 : l2 = l1 := Option.some.inj (h.2.2.symm.trans hG.2.2.1)
          subst e0; subst e1; exact c264 (by rw [hFIa.tp]; exact h2.1)) Ia hFIa
      · skip
        have c264 : pLast (Ia 27 0) l1.length (lF l1) (lG l1) := b2i_n0.mp c264
        refine x_iload_n 268 dX1_isGood_267 rfl rfl ?_
        refine x_bipush (v := 11) 270 dX1_isGood_268 rfl rfl ?_
        refine x_icmp_eq 283 273 dX1_isGood_270 (by decide) rfl (fun c270 => ?_) (fun c270 => ?_)
        · skip
          exfalso; revert c270; decide
        · skip
          refine x_aload_n 274 dX1_isGood_273 rfl rfl ?_
          refine x_getz 277 dX1_isGood_274 rfl fl_X1_76 (hk.l0 (by omega)) (hk.z0_23 (by omega)) ?_
          refine x_callV (as := []) (rest := []) (i := 0) (n' := n - 1) 280 dX1_isGood_277 rfl mv_X1_520 rfl rfl (hk.l4 (by omega)) (xnh rfl) (by omega) (xst (Nat.le_of_ble_eq_true rfl)) (c_X5_hasLast (I := Ia) hk (by omega) hG.2.1.2.1 (by omega) ?_)
          change X _ _ _ _ _ _ _ _ _ _
          refine x_if_eq 287 283 dX1_isGood_280 (by decide) rfl (fun c280 => ?_) (fun c280 => ?_)
          · skip
            have c280 : ¬ (pLast (Ia 27 0) l0.length (lF l0) (lG l0)) := b2i_0.mp c280
            refine x_iconst (v := 0) 288 dX1_isGood_287 rfl rfl ?_
            refine x_zreturn dX1_isGood_288 rfl (Or.inl rfl) ?_
            exact hq0 (fun ⟨l, l2, h, h2⟩ => by
              have e0 : l = l0 := Option.some.inj (h.2.1.symm.trans hG.2.1.1)
              have e1 : l2 = l1 := Option.some.inj (h.2.2.symm.trans hG.2.2.1)
              subst e0; subst e1; exact c280 (by rw [hFIa.tp]; exact h2.2)) Ia hFIa
          · skip
            have c280 : pLast (Ia 27 0) l0.length (lF l0) (lG l0) := b2i_n0.mp c280
            refine x_iconst (v := 1) 284 dX1_isGood_283 rfl rfl ?_
            refine x_goto 288 dX1_isGood_284 (by decide) ?_
            refine x_zreturn dX1_isGood_288 rfl (Or.inr rfl) ?_
            exact hq1 l0 l1 Ia hFIa hG (⟨by rw [← hFIa.tp]; exact c264, by rw [← hFIa.tp]; exact c280⟩)
