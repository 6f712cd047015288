set_option maxRecDepth 100000
def pAdd (I : xI) (i n s m : Nat) : xI := xu (xu (xu I 33 i n (nI s)) 34 i n (nI m)) 4 i 2 (nI (n + 1))
theorem dX5_add_0 : decode cX5_add 0 = .ok (.aload_n 0, 1) := by decide +kernel
theorem dX5_add_1 : decode cX5_add 1 = .ok (.getfield 22, 3) := by decide +kernel
theorem dX5_add_4 : decode cX5_add 4 = .ok (.bipush 12, 2) := by decide +kernel
theorem dX5_add_6 : decode cX5_add 6 = .ok (.if_icmp .ne 5, 3) := by decide +kernel
theorem dX5_add_9 : decode cX5_add 9 = .ok (.iconst 0, 1) := by decide +kernel
theorem dX5_add_10 : decode cX5_add 10 = .ok (.ireturn, 1) := by decide +kernel
theorem dX5_add_11 : decode cX5_add 11 = .ok (.aload_n 0, 1) := by decide +kernel
theorem dX5_add_12 : decode cX5_add 12 = .ok (.getfield 15, 3) := by decide +kernel
theorem dX5_add_15 : decode cX5_add 15 = .ok (.aload_n 0, 1) := by decide +kernel
theorem dX5_add_16 : decode cX5_add 16 = .ok (.getfield 22, 3) := by decide +kernel
theorem dX5_add_19 : decode cX5_add 19 = .ok (.iload_n 1, 1) := by decide +kernel
theorem dX5_add_20 : decode cX5_add 20 = .ok (.iastore, 1) := by decide +kernel
theorem dX5_add_21 : decode cX5_add 21 = .ok (.aload_n 0, 1) := by decide +kernel
theorem dX5_add_22 : decode cX5_add 22 = .ok (.getfield 19, 3) := by decide +kernel
theorem dX5_add_25 : decode cX5_add 25 = .ok (.aload_n 0, 1) := by decide +kernel
theorem dX5_add_26 : decode cX5_add 26 = .ok (.getfield 22, 3) := by decide +kernel
theorem dX5_add_29 : decode cX5_add 29 = .ok (.iload_n 2, 1) := by decide +kernel
theorem dX5_add_30 : decode cX5_add 30 = .ok (.iastore, 1) := by decide +kernel
theorem dX5_add_31 : decode cX5_add 31 = .ok (.aload_n 0, 1) := by decide +kernel
theorem dX5_add_32 : decode cX5_add 32 = .ok (.dup, 1) := by decide +kernel
theorem dX5_add_33 : decode cX5_add 33 = .ok (.getfield 22, 3) := by decide +kernel
theorem dX5_add_36 : decode cX5_add 36 = .ok (.iconst 1, 1) := by decide +kernel
theorem dX5_add_37 : decode cX5_add 37 = .ok (.iadd, 1) := by decide +kernel
theorem dX5_add_38 : decode cX5_add 38 = .ok (.putfield 22, 3) := by decide +kernel
theorem dX5_add_41 : decode cX5_add 41 = .ok (.iload_n 2, 1) := by decide +kernel
theorem dX5_add_42 : decode cX5_add 42 = .ok (.bipush 14, 2) := by decide +kernel
theorem dX5_add_44 : decode cX5_add 44 = .ok (.if_icmp .gt 7, 3) := by decide +kernel
theorem dX5_add_47 : decode cX5_add 47 = .ok (.iconst 1, 1) := by decide +kernel
theorem dX5_add_48 : decode cX5_add 48 = .ok (.goto 4, 3) := by decide +kernel
theorem dX5_add_51 : decode cX5_add 51 = .ok (.iconst 0, 1) := by decide +kernel
theorem dX5_add_52 : decode cX5_add 52 = .ok (.ireturn, 1) := by decide +kernel
set_option maxHeartbeats 4000000 in
set_option maxRecDepth 100000 in
theorem c_X5_add {G : xG} {n : Nat} {Q : Outcome → xS → Prop} {I : xI} {J : xJ} {R Z : xR} {T : xT} {N B : Nat} (hk : KS Z T N B) {i st s m : Nat} (hi : i < 2) (hst : I 4 i 2 = nI st) (h12 : st ≤ 12) (hm_ : m < 1000) (hn : 1 ≤ n) (hq0 : st = 12 → Q (.returned (some (.int 0))) (I, J, R, Z, T)) (hq1 : st < 12 → Q (.returned (some (.int (b2i (m ≤ 14))))) (pAdd I i st s m, J, R, Z, T)) : xCall G mX5_add n [.ref (T.ad 4 i), .int (nI s), .int (nI m)] (I, J, R, Z, T) Q := by
  refine x_met (L0 := [(1, .ref (T.ad 4 i)), (1, .int (nI s)), (1, .int (nI m))]) (by decide +kernel) rfl ⟨Nat.le_of_ble_eq_true rfl, rfl⟩ ?_
  refine x_aload_n 1 dX5_add_0 rfl rfl ?_
  refine x_geti 4 dX5_add_1 rfl fl_X5_22 (hk.l4 (by omega)) ?_
  refine x_vi (w := nI st) hst ?_
  refine x_bipush (v := 12) 6 dX5_add_4 rfl rfl ?_
  refine x_icmp_ne 11 9 dX5_add_6 (by decide) rfl (fun c6 => ?_) (fun c6 => ?_)
  · skip
    have c6 : ¬ (st = 12) := fun h => c6 ((nI_eq (a := st) (b := 12) (by omega) (by omega)).mpr h)
    refine x_aload_n 12 dX5_add_11 rfl rfl ?_
    refine x_getz 15 dX5_add_12 rfl fl_X5_15 (hk.l4 (by omega)) (hk.z4_0 (by omega)) ?_
    refine x_aload_n 16 dX5_add_15 rfl rfl ?_
    refine x_geti 19 dX5_add_16 rfl fl_X5_22 (hk.l4 (by omega)) ?_
    refine x_vi (w := nI st) hst ?_
    refine x_iload_n 20 dX5_add_19 rfl rfl ?_
    refine x_iast 21 dX5_add_20 rfl ar_33 (by decide) (by decide) (hk.l33 (by omega)) (xb (hk.n33 (by omega)) (by omega) (by omega)) ?_
    refine x_nmI fun I1 hI1 => ?_
    refine x_aload_n 22 dX5_add_21 rfl rfl ?_
    refine x_getz 25 dX5_add_22 rfl fl_X5_19 (hk.l4 (by omega)) (hk.z4_1 (by omega)) ?_
    refine x_aload_n 26 dX5_add_25 rfl rfl ?_
    refine x_geti 29 dX5_add_26 rfl fl_X5_22 (hk.l4 (by omega)) ?_
    refine x_vi (w := nI st) (by rw [hI1, xu_c (by decide)]; exact hst) ?_
    refine x_iload_n 30 dX5_add_29 rfl rfl ?_
    refine x_iast 31 dX5_add_30 rfl ar_34 (by decide) (by decide) (hk.l34 (by omega)) (xb (hk.n34 (by omega)) (by omega) (by omega)) ?_
    refine x_nmI fun I2 hI2 => ?_
    refine x_aload_n 32 dX5_add_31 rfl rfl ?_
    refine x_dup 33 dX5_add_32 rfl rfl ?_
    refine x_geti 36 dX5_add_33 rfl fl_X5_22 (hk.l4 (by omega)) ?_
    refine x_vi (w := nI st) (by rw [hI2, hI1, xu_c (by decide), xu_c (by decide)]; exact hst) ?_
    refine x_iconst (v := 1) 37 dX5_add_36 rfl rfl ?_
    refine x_iaddn st 1 38 dX5_add_37 rfl rfl rfl ?_
    refine x_puti 41 dX5_add_38 rfl fl_X5_22 rfl rfl (hk.l4 (by omega)) ?_
    refine x_nmI fun I3 hI3 => ?_
    refine x_iload_n 42 dX5_add_41 rfl rfl ?_
    refine x_bipush (v := 14) 44 dX5_add_42 rfl rfl ?_
    refine x_icmp_gt 51 47 dX5_add_44 (by decide) rfl (fun c44 => ?_) (fun c44 => ?_)
    · skip
      have c44 : 14 < m := (nI_ltI (a := 14) (b := m) (by omega) (by omega)).mp c44
      refine x_iconst (v := 0) 52 dX5_add_51 rfl rfl ?_
      refine x_zreturn dX5_add_52 rfl (Or.inl rfl) ?_
      have hq2 := hq1 (by omega)
      rw [hI3, hI2, hI1]
      exact xr0 (P := m ≤ 14) (by omega) hq2
    · skip
      have c44 : ¬ (14 < m) := fun h => c44 ((nI_ltI (a := 14) (b := m) (by omega) (by omega)).mpr h)
      refine x_iconst (v := 1) 48 dX5_add_47 rfl rfl ?_
      refine x_goto 52 dX5_add_48 (by decide) ?_
      refine x_zreturn dX5_add_52 rfl (Or.inr rfl) ?_
      have hq2 := hq1 (by omega)
      rw [hI3, hI2, hI1]
      exact xr1 (P := m ≤ 14) (by omega) hq2
  · skip
    have c6 : st = 12 := (nI_eq (a := st) (b := 12) (by omega) (by omega)).mp c6
    refine x_iconst (v := 0) 10 dX5_add_9 rfl rfl ?_
    refine x_zreturn dX5_add_10 rfl (Or.inl rfl) ?_
    exact hq0 c6
/-- the end of a step that begins at k -/
noncomputable def pSeg (f : Nat → Int32) (e k : Nat) : Nat := (fst0 (fun j => f j = 47 ∨ f j = 0) k (e - k)).getD e
noncomputable def pPar (f : Nat → Int32) (e : Nat) : Nat → Nat → List (Nat × Nat) → Option (List (Nat × Nat))
  | 0, _, _ => none
  | u + 1, k, l => if e ≤ k then some l else if pSeg f e k < e ∧ f (pSeg f e k) = 0 then none
    else if k < pSeg f e k then (if l.length = 12 ∨ 14 < pSeg f e k - k then none else pPar f e u (pSeg f e k + 1) (l ++ [(k, pSeg f e k - k)]))
    else pPar f e u (pSeg f e k + 1) l
/-- nothing but a path's own rows is touched -/
def pFr (i : Nat) (I I' : xI) : Prop := ∀ c j k, ¬ (c = 4 ∧ j = i ∧ (k = 2 ∨ k = 3)) → ¬ ((c = 33 ∨ c = 34) ∧ j = i) → I' c j k = I c j k
theorem pFr.ref0 {i : Nat} {I : xI} : pFr i I I := fun _ _ _ _ _ => by rfl
theorem pFr.trans {i : Nat} {I A B : xI} (h : pFr i I A) (g : pFr i A B) : pFr i I B := fun c j k a b => (g c j k a b).trans (h c j k a b)
theorem pFr.u {i c k : Nat} {I A : xI} {v : Int32} (h : pFr i I A) (hc : (c = 4 ∧ (k = 2 ∨ k = 3)) ∨ c = 33 ∨ c = 34) : pFr i I (xu A c i k v) := fun c' j' k' a b => by
  rw [xu_n, h c' j' k' a b]
  rintro ⟨rfl, rfl, rfl⟩
  rcases hc with ⟨h1, h2⟩ | h1 | h1
  · exact a ⟨h1, rfl, h2⟩
  · exact b ⟨Or.inl h1, rfl⟩
  · exact b ⟨Or.inr h1, rfl⟩
theorem pFr.add {i n s m : Nat} {I A : xI} (h : pFr i I A) : pFr i I (pAdd A i n s m) := by
  unfold pAdd; exact ((h.u (Or.inr (Or.inl rfl))).u (Or.inr (Or.inr rfl))).u (Or.inl ⟨rfl, Or.inl rfl⟩)
/-- the rows of a path hold the steps l -/
def pHold (I : xI) (i : Nat) (l : List (Nat × Nat)) : Prop := I 4 i 2 = nI l.length ∧ ∀ t p, l[t]? = some p → I 33 i t = nI p.1 ∧ I 34 i t = nI p.2
theorem pHold.add {I : xI} {i s m : Nat} {l : List (Nat × Nat)} (h : pHold I i l) : pHold (pAdd I i l.length s m) i (l ++ [(s, m)]) := by
  refine ⟨by unfold pAdd; rw [xu_eq]; simp, fun t p hp => ?_⟩
  unfold pAdd
  rw [xu_c (c := 4) (c' := 33) (by decide), xu_c (c := 34) (c' := 33) (by decide), xu_c (c := 4) (c' := 34) (by decide)]
  by_cases e : t = l.length
  · subst e
    rw [List.getElem?_append_right (Nat.le_refl _)] at hp
    simp at hp
    subst hp
    exact ⟨xu_eq, xu_eq⟩
  · have ht : t < l.length := by
      have := (List.getElem?_eq_some_iff.mp hp).1
      simp at this; omega
    rw [List.getElem?_append_left ht] at hp
    rw [xu_k e, xu_k e, xu_c (c := 33) (c' := 34) (by decide)]
    exact h.2 t p hp
theorem pSeg_le {f : Nat → Int32} {e k : Nat} (h : k ≤ e) : k ≤ pSeg f e k ∧ pSeg f e k ≤ e := by
  unfold pSeg
  cases q : fst0 (fun j => f j = 47 ∨ f j = 0) k (e - k) with
  | none => exact ⟨h, Nat.le_refl _⟩
  | some j => obtain ⟨h1, h2, _⟩ := fst0_spec _ _ _ q; exact ⟨h1, by show j ≤ e; omega⟩
theorem dX5_read_0 : decode cX5_read 0 = .ok (.aload_n 0, 1) := by decide +kernel
theorem dX5_read_1 : decode cX5_read 1 = .ok (.iconst 0, 1) := by decide +kernel
theorem dX5_read_2 : decode cX5_read 2 = .ok (.putfield 22, 3) := by decide +kernel
theorem dX5_read_5 : decode cX5_read 5 = .ok (.iload_n 2, 1) := by decide +kernel
theorem dX5_read_6 : decode cX5_read 6 = .ok (.iload_n 1, 1) := by decide +kernel
theorem dX5_read_7 : decode cX5_read 7 = .ok (.isub, 1) := by decide +kernel
theorem dX5_read_8 : decode cX5_read 8 = .ok (.iconst 1, 1) := by decide +kernel
theorem dX5_read_9 : decode cX5_read 9 = .ok (.if_icmp .lt 12, 3) := by decide +kernel
theorem dX5_read_12 : decode cX5_read 12 = .ok (.iload_n 2, 1) := by decide +kernel
theorem dX5_read_13 : decode cX5_read 13 = .ok (.iload_n 1, 1) := by decide +kernel
theorem dX5_read_14 : decode cX5_read 14 = .ok (.isub, 1) := by decide +kernel
theorem dX5_read_15 : decode cX5_read 15 = .ok (.sipush 200, 3) := by decide +kernel
theorem dX5_read_18 : decode cX5_read 18 = .ok (.if_icmp .le 5, 3) := by decide +kernel
theorem dX5_read_21 : decode cX5_read 21 = .ok (.iconst 0, 1) := by decide +kernel
theorem dX5_read_22 : decode cX5_read 22 = .ok (.ireturn, 1) := by decide +kernel
theorem dX5_read_23 : decode cX5_read 23 = .ok (.aload_n 0, 1) := by decide +kernel
theorem dX5_read_24 : decode cX5_read 24 = .ok (.aload_n 0, 1) := by decide +kernel
theorem dX5_read_25 : decode cX5_read 25 = .ok (.getfield 3, 3) := by decide +kernel
theorem dX5_read_28 : decode cX5_read 28 = .ok (.getfield 26, 3) := by decide +kernel
theorem dX5_read_31 : decode cX5_read 31 = .ok (.iload_n 1, 1) := by decide +kernel
theorem dX5_read_32 : decode cX5_read 32 = .ok (.baload, 1) := by decide +kernel
theorem dX5_read_33 : decode cX5_read 33 = .ok (.bipush 47, 2) := by decide +kernel
theorem dX5_read_35 : decode cX5_read 35 = .ok (.if_icmp .ne 7, 3) := by decide +kernel
theorem dX5_read_38 : decode cX5_read 38 = .ok (.iconst 1, 1) := by decide +kernel
theorem dX5_read_39 : decode cX5_read 39 = .ok (.goto 4, 3) := by decide +kernel
theorem dX5_read_42 : decode cX5_read 42 = .ok (.iconst 0, 1) := by decide +kernel
theorem dX5_read_43 : decode cX5_read 43 = .ok (.putfield 30, 3) := by decide +kernel
theorem dX5_read_46 : decode cX5_read 46 = .ok (.iload_n 1, 1) := by decide +kernel
theorem dX5_read_47 : decode cX5_read 47 = .ok (.istore_n 3, 1) := by decide +kernel
theorem dX5_read_48 : decode cX5_read 48 = .ok (.iload_n 3, 1) := by decide +kernel
theorem dX5_read_49 : decode cX5_read 49 = .ok (.iload_n 2, 1) := by decide +kernel
theorem dX5_read_50 : decode cX5_read 50 = .ok (.if_icmp .ge 89, 3) := by decide +kernel
theorem dX5_read_53 : decode cX5_read 53 = .ok (.iload_n 3, 1) := by decide +kernel
theorem dX5_read_54 : decode cX5_read 54 = .ok (.istore 4, 2) := by decide +kernel
theorem dX5_read_56 : decode cX5_read 56 = .ok (.iload_n 3, 1) := by decide +kernel
theorem dX5_read_57 : decode cX5_read 57 = .ok (.iload_n 2, 1) := by decide +kernel
theorem dX5_read_58 : decode cX5_read 58 = .ok (.if_icmp .ge 35, 3) := by decide +kernel
theorem dX5_read_61 : decode cX5_read 61 = .ok (.aload_n 0, 1) := by decide +kernel
theorem dX5_read_62 : decode cX5_read 62 = .ok (.getfield 3, 3) := by decide +kernel
theorem dX5_read_65 : decode cX5_read 65 = .ok (.getfield 26, 3) := by decide +kernel
theorem dX5_read_68 : decode cX5_read 68 = .ok (.iload_n 3, 1) := by decide +kernel
theorem dX5_read_69 : decode cX5_read 69 = .ok (.baload, 1) := by decide +kernel
theorem dX5_read_70 : decode cX5_read 70 = .ok (.bipush 47, 2) := by decide +kernel
theorem dX5_read_72 : decode cX5_read 72 = .ok (.if_icmp .eq 21, 3) := by decide +kernel
theorem dX5_read_75 : decode cX5_read 75 = .ok (.aload_n 0, 1) := by decide +kernel
theorem dX5_read_76 : decode cX5_read 76 = .ok (.getfield 3, 3) := by decide +kernel
theorem dX5_read_79 : decode cX5_read 79 = .ok (.getfield 26, 3) := by decide +kernel
theorem dX5_read_82 : decode cX5_read 82 = .ok (.iload_n 3, 1) := by decide +kernel
theorem dX5_read_83 : decode cX5_read 83 = .ok (.baload, 1) := by decide +kernel
theorem dX5_read_84 : decode cX5_read 84 = .ok (.ifCond .eq 9, 3) := by decide +kernel
theorem dX5_read_87 : decode cX5_read 87 = .ok (.iinc 3 1, 3) := by decide +kernel
theorem dX5_read_90 : decode cX5_read 90 = .ok (.goto (-34), 3) := by decide +kernel
theorem dX5_read_93 : decode cX5_read 93 = .ok (.iload_n 3, 1) := by decide +kernel
theorem dX5_read_94 : decode cX5_read 94 = .ok (.iload_n 2, 1) := by decide +kernel
theorem dX5_read_95 : decode cX5_read 95 = .ok (.if_icmp .ge 17, 3) := by decide +kernel
theorem dX5_read_98 : decode cX5_read 98 = .ok (.aload_n 0, 1) := by decide +kernel
theorem dX5_read_99 : decode cX5_read 99 = .ok (.getfield 3, 3) := by decide +kernel
theorem dX5_read_102 : decode cX5_read 102 = .ok (.getfield 26, 3) := by decide +kernel
theorem dX5_read_105 : decode cX5_read 105 = .ok (.iload_n 3, 1) := by decide +kernel
theorem dX5_read_106 : decode cX5_read 106 = .ok (.baload, 1) := by decide +kernel
theorem dX5_read_107 : decode cX5_read 107 = .ok (.ifCond .ne 5, 3) := by decide +kernel
theorem dX5_read_110 : decode cX5_read 110 = .ok (.iconst 0, 1) := by decide +kernel
theorem dX5_read_111 : decode cX5_read 111 = .ok (.ireturn, 1) := by decide +kernel
theorem dX5_read_112 : decode cX5_read 112 = .ok (.iload_n 3, 1) := by decide +kernel
theorem dX5_read_113 : decode cX5_read 113 = .ok (.iload 4, 2) := by decide +kernel
theorem dX5_read_115 : decode cX5_read 115 = .ok (.if_icmp .le 18, 3) := by decide +kernel
theorem dX5_read_118 : decode cX5_read 118 = .ok (.aload_n 0, 1) := by decide +kernel
theorem dX5_read_119 : decode cX5_read 119 = .ok (.iload 4, 2) := by decide +kernel
theorem dX5_read_121 : decode cX5_read 121 = .ok (.iload_n 3, 1) := by decide +kernel
theorem dX5_read_122 : decode cX5_read 122 = .ok (.iload 4, 2) := by decide +kernel
theorem dX5_read_124 : decode cX5_read 124 = .ok (.isub, 1) := by decide +kernel
theorem dX5_read_125 : decode cX5_read 125 = .ok (.invokevirtual 34, 3) := by decide +kernel
theorem dX5_read_128 : decode cX5_read 128 = .ok (.ifCond .ne 5, 3) := by decide +kernel
theorem dX5_read_131 : decode cX5_read 131 = .ok (.iconst 0, 1) := by decide +kernel
theorem dX5_read_132 : decode cX5_read 132 = .ok (.ireturn, 1) := by decide +kernel
theorem dX5_read_133 : decode cX5_read 133 = .ok (.iinc 3 1, 3) := by decide +kernel
theorem dX5_read_136 : decode cX5_read 136 = .ok (.goto (-88), 3) := by decide +kernel
theorem dX5_read_139 : decode cX5_read 139 = .ok (.iconst 1, 1) := by decide +kernel
theorem dX5_read_140 : decode cX5_read 140 = .ok (.ireturn, 1) := by decide +kernel
set_option maxHeartbeats 4000000 in
set_option maxRecDepth 100000 in
theorem i_X5_read {G : xG} {n a b : Nat} {Q : Outcome → xS → Prop} {J : xJ} {Z : xR} {T : xT} {R : xR} {I : xI} {N B : Nat} (hk : KS Z T N B) {i s e k : Nat} (hi : i < 2) (he : e ≤ 256) (hke : k ≤ e) (hx : X G mX5_read n a b Q (I, J, R, Z, T) 93 [(1, .ref (T.ad 4 i)), (1, .int (nI s)), (1, .int (nI e)), (1, .int (nI (pSeg (I 27 0) e k))), (1, .int (nI k))] []) (j : Nat) (hn : 1 ≤ n) :
    (k ≤ j ∧ j ≤ e) → (∀ q, k ≤ q → q < j → ¬ (I 27 0 q = 47 ∨ I 27 0 q = 0)) → X G mX5_read n a b Q (I, J, R, Z, T) 56 [(1, .ref (T.ad 4 i)), (1, .int (nI s)), (1, .int (nI e)), (1, .int (nI j)), (1, .int (nI k))] [] := by
  induction hm : e - j using Nat.strongRecOn generalizing j with
  | _ m_ ih =>
    intro h8 hv
    refine x_iload_n 57 dX5_read_56 rfl rfl ?_
    refine x_iload_n 58 dX5_read_57 rfl rfl ?_
    refine x_icmp_ge 93 61 dX5_read_58 (by decide) rfl (fun c58 => ?_) (fun c58 => ?_)
    · skip
      have c58 : e ≤ j := (nI_leI (a := e) (b := j) (by omega) (by omega)).mp c58
      have ej : j = e := by omega
      have e_ : pSeg (I 27 0) e k = j := by unfold pSeg; rw [(fst0_none (e - k) k (fun q h1 h2 => hv q h1 (by omega)))]; exact ej.symm
      rw [e_] at hx
      exact hx
    · skip
      have c58 : ¬ (e ≤ j) := fun h => c58 ((nI_leI (a := e) (b := j) (by omega) (by omega)).mpr h)
      refine x_aload_n 62 dX5_read_61 rfl rfl ?_
      refine x_getz 65 dX5_read_62 rfl fl_X5_3 (hk.l4 (by omega)) (hk.z4_4 (by omega)) ?_
      refine x_getz 68 dX5_read_65 rfl fl_X5_26 (hk.l0 (by omega)) (hk.z0_11 (by omega)) ?_
      refine x_iload_n 69 dX5_read_68 rfl rfl ?_
      refine x_bald 70 dX5_read_69 rfl ar_27 (hk.l27 (by omega)) (xb (hk.n27 (by omega)) (by omega) (by omega)) ?_
      refine x_bipush (v := 47) 72 dX5_read_70 rfl rfl ?_
      refine x_icmp_eq 93 75 dX5_read_72 (by decide) rfl (fun c72 => ?_) (fun c72 => ?_)
      · skip
        have e_ : pSeg (I 27 0) e k = j := by unfold pSeg; rw [fst0_some (e - k) k j (by omega) (by omega) (Or.inl c72) hv]; rfl
        rw [e_] at hx
        exact hx
      · skip
        refine x_aload_n 76 dX5_read_75 rfl rfl ?_
        refine x_getz 79 dX5_read_76 rfl fl_X5_3 (hk.l4 (by omega)) (hk.z4_4 (by omega)) ?_
        refine x_getz 82 dX5_read_79 rfl fl_X5_26 (hk.l0 (by omega)) (hk.z0_11 (by omega)) ?_
        refine x_iload_n 83 dX5_read_82 rfl rfl ?_
        refine x_bald 84 dX5_read_83 rfl ar_27 (hk.l27 (by omega)) (xb (hk.n27 (by omega)) (by omega) (by omega)) ?_
        refine x_if_eq 93 87 dX5_read_84 (by decide) rfl (fun c84 => ?_) (fun c84 => ?_)
        · skip
          have e_ : pSeg (I 27 0) e k = j := by unfold pSeg; rw [fst0_some (e - k) k j (by omega) (by omega) (Or.inr c84) hv]; rfl
          rw [e_] at hx
          exact hx
        · skip
          refine x_iinc 90 [(1, .ref (T.ad 4 i)), (1, .int (nI s)), (1, .int (nI e)), (1, .int (nI (j + 1))), (1, .int (nI k))] dX5_read_87 rfl (by decide) rfl (xi_1 j) rfl ?_
          refine x_goto 56 dX5_read_90 (by decide) ?_
          exact ih _ (by rw [← hm]; omega) (j + 1) rfl (by omega) (fun q h1 h2 => by by_cases e : q = j; (rw [e]; rintro (h | h); exact c72 h; exact c84 h); exact hv q h1 (by omega))
