set_option maxRecDepth 100000
/-! undo -/
def itA (f : xI → Nat → xI) (A : xI) : Nat → xI
  | 0 => A
  | k + 1 => f (itA f A k) k
def itS (f : xI × xR → Nat → xI × xR) (s : xI × xR) : Nat → xI × xR
  | 0 => s
  | k + 1 => f (itS f s k) k
def thOK (th : List xTh) (N : Nat) : Prop := ∀ t ∈ th, t.2.1 = nI (iN t.2.1) ∧ kOf t.1 (iN t.2.1) N
def kUnd1 (w : Int32) (A : xI) (t : xTh) : xI := if t.2.2.2.2.2 = w then kRest A t.1 (iN t.2.1) else A
def kUndT (w : Int32) (th : List xTh) (A : xI) : xI := th.foldl (kUnd1 w) A
def kUndN (w : Int32) (A : xI) (i : Nat) : xI := if A 6 i 11 = w then xu (xu A 6 i 2 (A 6 i 6)) 6 i 11 (-1) else A
def kUndC (w : Int32) (A : xI) (i : Nat) : xI := if A 6 i 10 = w then iClr A i else A
def kUnd2 (w : Int32) (A : xI) (i : Nat) : xI := kUndC w (kUndN w (iUndoS A i w) i) i
def kUnd3 (w : Int32) (s : xI × xR) (p : Nat) : xI × xR := if s.1 9 p 1 = 3 ∧ s.1 9 p 18 = w then (pClrI s.1 p, pClrR s.2 p) else s
/-- what someone did is as it was -/
def kUndo (N : Nat) (w : Int32) (th : List xTh) (s : xI × xR) : xI × xR := itS (kUnd3 w) (itA (kUnd2 w) (kUndT w th s.1) N, s.2) 16
theorem thOK.at {x : kX} {v : kV} {th : List xTh} {N jk jo jf js jr jw : Nat} (h : thOK th N) (hl : thL v.t v.J jk jo jf js jr jw th.length = th) : ∀ k, k < th.length → v.t 31 jo k = nI (iN (v.t 31 jo k)) ∧ kOf (v.t 31 jk k) (iN (v.t 31 jo k)) N := by
  intro k hk
  have e := thL_get (I := v.t) (J := v.J) (jk := jk) (jo := jo) (jf := jf) (js := js) (jr := jr) (jw := jw) hk
  rw [hl] at e
  exact h _ (List.mem_of_getElem? e)
theorem kUndT_s {w : Int32} {v : kV} {th : List xTh} {A : xI} {jk jo jf js jr jw k : Nat} (hl : thL v.t v.J jk jo jf js jr jw th.length = th) (hk : k < th.length) : kUndT w (th.take (k + 1)) A = kUnd1 w (kUndT w (th.take k) A) (thAt v.t v.J jk jo jf js jr jw k) := by
  have e := thL_get (I := v.t) (J := v.J) (jk := jk) (jo := jo) (jf := jf) (js := js) (jr := jr) (jw := jw) hk
  rw [hl] at e
  unfold kUndT
  rw [List.take_succ, e, List.foldl_append]
  rfl
theorem kWf.und1 {A : xI} {N : Nat} {w : Int32} {t : xTh} (h : kWf A N) : kWf (kUnd1 w A t) N := by
  unfold kUnd1; split
  · exact h.rest
  · exact h
theorem kWf.undN {A : xI} {N i : Nat} {w : Int32} (h : kWf A N) : kWf (kUndN w A i) N := by
  unfold kUndN; split
  · exact (h.u rfl).u rfl
  · exact h
theorem kWf.undC {A : xI} {N i : Nat} {w : Int32} (h : kWf A N) : kWf (kUndC w A i) N := by
  unfold kUndC; split
  · exact h.clr
  · exact h
theorem dX1_undo_0 : decode cX1_undo 0 = .ok (.iconst 0, 1) := by decide +kernel
theorem dX1_undo_1 : decode cX1_undo 1 = .ok (.istore_n 2, 1) := by decide +kernel
theorem dX1_undo_2 : decode cX1_undo 2 = .ok (.iload_n 2, 1) := by decide +kernel
theorem dX1_undo_3 : decode cX1_undo 3 = .ok (.aload_n 0, 1) := by decide +kernel
theorem dX1_undo_4 : decode cX1_undo 4 = .ok (.getfield 46, 3) := by decide +kernel
theorem dX1_undo_7 : decode cX1_undo 7 = .ok (.getfield 205, 3) := by decide +kernel
theorem dX1_undo_10 : decode cX1_undo 10 = .ok (.if_icmp .ge 44, 3) := by decide +kernel
theorem dX1_undo_13 : decode cX1_undo 13 = .ok (.aload_n 0, 1) := by decide +kernel
theorem dX1_undo_14 : decode cX1_undo 14 = .ok (.getfield 46, 3) := by decide +kernel
theorem dX1_undo_17 : decode cX1_undo 17 = .ok (.getfield 328, 3) := by decide +kernel
theorem dX1_undo_20 : decode cX1_undo 20 = .ok (.iload_n 2, 1) := by decide +kernel
theorem dX1_undo_21 : decode cX1_undo 21 = .ok (.iaload, 1) := by decide +kernel
theorem dX1_undo_22 : decode cX1_undo 22 = .ok (.iload_n 1, 1) := by decide +kernel
theorem dX1_undo_23 : decode cX1_undo 23 = .ok (.if_icmp .ne 25, 3) := by decide +kernel
theorem dX1_undo_26 : decode cX1_undo 26 = .ok (.aload_n 0, 1) := by decide +kernel
theorem dX1_undo_27 : decode cX1_undo 27 = .ok (.aload_n 0, 1) := by decide +kernel
theorem dX1_undo_28 : decode cX1_undo 28 = .ok (.getfield 46, 3) := by decide +kernel
theorem dX1_undo_31 : decode cX1_undo 31 = .ok (.getfield 331, 3) := by decide +kernel
theorem dX1_undo_34 : decode cX1_undo 34 = .ok (.iload_n 2, 1) := by decide +kernel
theorem dX1_undo_35 : decode cX1_undo 35 = .ok (.iaload, 1) := by decide +kernel
theorem dX1_undo_36 : decode cX1_undo 36 = .ok (.aload_n 0, 1) := by decide +kernel
theorem dX1_undo_37 : decode cX1_undo 37 = .ok (.getfield 46, 3) := by decide +kernel
theorem dX1_undo_40 : decode cX1_undo 40 = .ok (.getfield 333, 3) := by decide +kernel
theorem dX1_undo_43 : decode cX1_undo 43 = .ok (.iload_n 2, 1) := by decide +kernel
theorem dX1_undo_44 : decode cX1_undo 44 = .ok (.iaload, 1) := by decide +kernel
theorem dX1_undo_45 : decode cX1_undo 45 = .ok (.invokevirtual 335, 3) := by decide +kernel
theorem dX1_undo_48 : decode cX1_undo 48 = .ok (.iinc 2 1, 3) := by decide +kernel
theorem dX1_undo_51 : decode cX1_undo 51 = .ok (.goto (-49), 3) := by decide +kernel
theorem dX1_undo_54 : decode cX1_undo 54 = .ok (.aload_n 0, 1) := by decide +kernel
theorem dX1_undo_55 : decode cX1_undo 55 = .ok (.getfield 115, 3) := by decide +kernel
theorem dX1_undo_58 : decode cX1_undo 58 = .ok (.astore_n 2, 1) := by decide +kernel
theorem dX1_undo_59 : decode cX1_undo 59 = .ok (.aload_n 2, 1) := by decide +kernel
theorem dX1_undo_60 : decode cX1_undo 60 = .ok (.arraylength, 1) := by decide +kernel
theorem dX1_undo_61 : decode cX1_undo 61 = .ok (.istore_n 3, 1) := by decide +kernel
theorem dX1_undo_62 : decode cX1_undo 62 = .ok (.iconst 0, 1) := by decide +kernel
theorem dX1_undo_63 : decode cX1_undo 63 = .ok (.istore 4, 2) := by decide +kernel
theorem dX1_undo_65 : decode cX1_undo 65 = .ok (.iload 4, 2) := by decide +kernel
theorem dX1_undo_67 : decode cX1_undo 67 = .ok (.iload_n 3, 1) := by decide +kernel
theorem dX1_undo_68 : decode cX1_undo 68 = .ok (.if_icmp .ge 60, 3) := by decide +kernel
theorem dX1_undo_71 : decode cX1_undo 71 = .ok (.aload_n 2, 1) := by decide +kernel
theorem dX1_undo_72 : decode cX1_undo 72 = .ok (.iload 4, 2) := by decide +kernel
theorem dX1_undo_74 : decode cX1_undo 74 = .ok (.aaload, 1) := by decide +kernel
theorem dX1_undo_75 : decode cX1_undo 75 = .ok (.astore 5, 2) := by decide +kernel
theorem dX1_undo_77 : decode cX1_undo 77 = .ok (.aload 5, 2) := by decide +kernel
theorem dX1_undo_79 : decode cX1_undo 79 = .ok (.iload_n 1, 1) := by decide +kernel
theorem dX1_undo_80 : decode cX1_undo 80 = .ok (.invokevirtual 338, 3) := by decide +kernel
theorem dX1_undo_83 : decode cX1_undo 83 = .ok (.aload 5, 2) := by decide +kernel
theorem dX1_undo_85 : decode cX1_undo 85 = .ok (.getfield 261, 3) := by decide +kernel
theorem dX1_undo_88 : decode cX1_undo 88 = .ok (.iload_n 1, 1) := by decide +kernel
theorem dX1_undo_89 : decode cX1_undo 89 = .ok (.if_icmp .ne 19, 3) := by decide +kernel
theorem dX1_undo_92 : decode cX1_undo 92 = .ok (.aload 5, 2) := by decide +kernel
theorem dX1_undo_94 : decode cX1_undo 94 = .ok (.aload 5, 2) := by decide +kernel
theorem dX1_undo_96 : decode cX1_undo 96 = .ok (.getfield 297, 3) := by decide +kernel
theorem dX1_undo_99 : decode cX1_undo 99 = .ok (.putfield 185, 3) := by decide +kernel
theorem dX1_undo_102 : decode cX1_undo 102 = .ok (.aload 5, 2) := by decide +kernel
theorem dX1_undo_104 : decode cX1_undo 104 = .ok (.iconst (-1), 1) := by decide +kernel
theorem dX1_undo_105 : decode cX1_undo 105 = .ok (.putfield 261, 3) := by decide +kernel
theorem dX1_undo_108 : decode cX1_undo 108 = .ok (.aload 5, 2) := by decide +kernel
theorem dX1_undo_110 : decode cX1_undo 110 = .ok (.getfield 258, 3) := by decide +kernel
theorem dX1_undo_113 : decode cX1_undo 113 = .ok (.iload_n 1, 1) := by decide +kernel
theorem dX1_undo_114 : decode cX1_undo 114 = .ok (.if_icmp .ne 8, 3) := by decide +kernel
theorem dX1_undo_117 : decode cX1_undo 117 = .ok (.aload 5, 2) := by decide +kernel
theorem dX1_undo_119 : decode cX1_undo 119 = .ok (.invokevirtual 198, 3) := by decide +kernel
theorem dX1_undo_122 : decode cX1_undo 122 = .ok (.iinc 4 1, 3) := by decide +kernel
theorem dX1_undo_125 : decode cX1_undo 125 = .ok (.goto (-60), 3) := by decide +kernel
theorem dX1_undo_128 : decode cX1_undo 128 = .ok (.aload_n 0, 1) := by decide +kernel
theorem dX1_undo_129 : decode cX1_undo 129 = .ok (.getfield 39, 3) := by decide +kernel
theorem dX1_undo_132 : decode cX1_undo 132 = .ok (.astore_n 2, 1) := by decide +kernel
theorem dX1_undo_133 : decode cX1_undo 133 = .ok (.aload_n 2, 1) := by decide +kernel
theorem dX1_undo_134 : decode cX1_undo 134 = .ok (.arraylength, 1) := by decide +kernel
theorem dX1_undo_135 : decode cX1_undo 135 = .ok (.istore_n 3, 1) := by decide +kernel
theorem dX1_undo_136 : decode cX1_undo 136 = .ok (.iconst 0, 1) := by decide +kernel
theorem dX1_undo_137 : decode cX1_undo 137 = .ok (.istore 4, 2) := by decide +kernel
theorem dX1_undo_139 : decode cX1_undo 139 = .ok (.iload 4, 2) := by decide +kernel
theorem dX1_undo_141 : decode cX1_undo 141 = .ok (.iload_n 3, 1) := by decide +kernel
theorem dX1_undo_142 : decode cX1_undo 142 = .ok (.if_icmp .ge 38, 3) := by decide +kernel
theorem dX1_undo_145 : decode cX1_undo 145 = .ok (.aload_n 2, 1) := by decide +kernel
theorem dX1_undo_146 : decode cX1_undo 146 = .ok (.iload 4, 2) := by decide +kernel
theorem dX1_undo_148 : decode cX1_undo 148 = .ok (.aaload, 1) := by decide +kernel
theorem dX1_undo_149 : decode cX1_undo 149 = .ok (.astore 5, 2) := by decide +kernel
theorem dX1_undo_151 : decode cX1_undo 151 = .ok (.aload 5, 2) := by decide +kernel
theorem dX1_undo_153 : decode cX1_undo 153 = .ok (.getfield 208, 3) := by decide +kernel
theorem dX1_undo_156 : decode cX1_undo 156 = .ok (.iconst 3, 1) := by decide +kernel
theorem dX1_undo_157 : decode cX1_undo 157 = .ok (.if_icmp .ne 17, 3) := by decide +kernel
theorem dX1_undo_160 : decode cX1_undo 160 = .ok (.aload 5, 2) := by decide +kernel
theorem dX1_undo_162 : decode cX1_undo 162 = .ok (.getfield 341, 3) := by decide +kernel
theorem dX1_undo_165 : decode cX1_undo 165 = .ok (.iload_n 1, 1) := by decide +kernel
theorem dX1_undo_166 : decode cX1_undo 166 = .ok (.if_icmp .ne 8, 3) := by decide +kernel
theorem dX1_undo_169 : decode cX1_undo 169 = .ok (.aload 5, 2) := by decide +kernel
theorem dX1_undo_171 : decode cX1_undo 171 = .ok (.invokevirtual 201, 3) := by decide +kernel
theorem dX1_undo_174 : decode cX1_undo 174 = .ok (.iinc 4 1, 3) := by decide +kernel
theorem dX1_undo_177 : decode cX1_undo 177 = .ok (.goto (-38), 3) := by decide +kernel
theorem dX1_undo_180 : decode cX1_undo 180 = .ok (.aload_n 0, 1) := by decide +kernel
theorem dX1_undo_181 : decode cX1_undo 181 = .ok (.getfield 46, 3) := by decide +kernel
theorem dX1_undo_184 : decode cX1_undo 184 = .ok (.iload_n 1, 1) := by decide +kernel
theorem dX1_undo_185 : decode cX1_undo 185 = .ok (.invokevirtual 344, 3) := by decide +kernel
theorem dX1_undo_188 : decode cX1_undo 188 = .ok (.return_, 1) := by decide +kernel
set_option maxHeartbeats 4000000 in
set_option maxRecDepth 100000 in
theorem l1_X1_undo {G : xG} {n a b : Nat} {Q : Outcome → xS → Prop} {x : kX} {I0 : xI} {R : xR} {v : kV} {th : List xTh} (hT : KT x v th) (hok : thOK th x.N) {w : Int32} (hx : kWf (kUndT w th I0) x.N → X G mX1_undo n a b Q (kS (kUndT w th I0) R x v) 54 [(1, .ref (x.ad 0 0)), (1, .int w), xo, xo, xo, xo] []) (k : Nat) (I : xI) (hn : 3 ≤ n) :
    (k ≤ th.length) → (kWf I x.N) → (I = kUndT w (th.take k) I0) → X G mX1_undo n a b Q (kS I R x v) 2 [(1, .ref (x.ad 0 0)), (1, .int w), (1, .int (nI k)), xo, xo, xo] [] := by
  induction hm : th.length - k using Nat.strongRecOn generalizing k I with
  | _ m_ ih =>
    intro h8 hw hI
    obtain ⟨g_, cap, jk, jo, jf, js, jr, jw, ht, hmn, hle, hthL, -⟩ := hT.2.2.2.2.2
    have hc2 := ht.xc2
    have hO := hok.at (x := x) hthL
    have hnb := hT.ks.nb
    refine x_iload_n 3 dX1_undo_2 rfl rfl ?_
    refine x_aload_n 4 dX1_undo_3 rfl rfl ?_
    refine x_getz 7 dX1_undo_4 rfl fl_X1_46 (hT.ks.l0 (by omega)) (hT.ks.z0_9 (by omega)) ?_
    refine x_geti 10 dX1_undo_7 rfl fl_X1_205 (hT.ks.l2 (by omega)) ?_
    refine x_vi (w := v.t 2 0 0) rfl ?_
    refine x_vi (w := nI th.length) hmn ?_
    refine x_icmp_ge 54 13 dX1_undo_10 (by decide) rfl (fun c10 => ?_) (fun c10 => ?_)
    · skip
      have c10 : th.length ≤ k := (nI_leI (a := th.length) (b := k) (by omega) (by omega)).mp c10
      refine x_fgt [(1, .ref (x.ad 0 0)), (1, .int w), xo, xo, xo, xo] ⟨Or.inr rfl, Or.inr rfl, Or.inl rfl, Or.inl rfl, Or.inl rfl, Or.inl rfl, trivial⟩ ?_
      have e : k = th.length := by omega
      rw [e, List.take_length] at hI
      rw [hI] at hw ⊢
      exact hx hw
    · skip
      have c10 : ¬ (th.length ≤ k) := fun h => c10 ((nI_leI (a := th.length) (b := k) (by omega) (by omega)).mpr h)
      refine x_aload_n 14 dX1_undo_13 rfl rfl ?_
      refine x_getz 17 dX1_undo_14 rfl fl_X1_46 (hT.ks.l0 (by omega)) (hT.ks.z0_9 (by omega)) ?_
      refine x_gets 20 dX1_undo_17 rfl fl_X1_328 (hT.ks.l2 (by omega)) ht.xw ?_
      refine x_iload_n 21 dX1_undo_20 rfl rfl ?_
      refine x_iald 22 dX1_undo_21 rfl ar_31 ht.xlw (xb ht.xnw (by omega) (by omega)) ?_
      refine x_vi (w := v.t 31 jw k) rfl ?_
      refine x_iload_n 23 dX1_undo_22 rfl rfl ?_
      refine x_icmp_ne 48 26 dX1_undo_23 (by decide) rfl (fun c23 => ?_) (fun c23 => ?_)
      · skip
        refine x_iinc 51 [(1, .ref (x.ad 0 0)), (1, .int w), (1, .int (nI (k + 1))), xo, xo, xo] dX1_undo_48 rfl (by decide) rfl (xi_1 k) rfl ?_
        refine x_goto 2 dX1_undo_51 (by decide) ?_
        exact ih _ (by rw [← hm]; omega) (k + 1) I rfl (by omega) (hw) (by rw [kUndT_s (jk := jk) (jo := jo) (jf := jf) (js := js) (jr := jr) (jw := jw) hthL (by omega), ← hI]; exact (if_neg c23).symm)
      · skip
        refine x_aload_n 27 dX1_undo_26 rfl rfl ?_
        refine x_aload_n 28 dX1_undo_27 rfl rfl ?_
        refine x_getz 31 dX1_undo_28 rfl fl_X1_46 (hT.ks.l0 (by omega)) (hT.ks.z0_9 (by omega)) ?_
        refine x_gets 34 dX1_undo_31 rfl fl_X1_331 (hT.ks.l2 (by omega)) ht.xk ?_
        refine x_iload_n 35 dX1_undo_34 rfl rfl ?_
        refine x_iald 36 dX1_undo_35 rfl ar_31 ht.xlk (xb ht.xnk (by omega) (by omega)) ?_
        refine x_vi (w := v.t 31 jk k) rfl ?_
        refine x_aload_n 37 dX1_undo_36 rfl rfl ?_
        refine x_getz 40 dX1_undo_37 rfl fl_X1_46 (hT.ks.l0 (by omega)) (hT.ks.z0_9 (by omega)) ?_
        refine x_gets 43 dX1_undo_40 rfl fl_X1_333 (hT.ks.l2 (by omega)) ht.xo ?_
        refine x_iload_n 44 dX1_undo_43 rfl rfl ?_
        refine x_iald 45 dX1_undo_44 rfl ar_31 ht.xlo (xb ht.xno (by omega) (by omega)) ?_
        refine x_vi (w := v.t 31 jo k) rfl ?_
        refine x_vi (w := nI (iN (v.t 31 jo k))) (hO k (by omega)).1 ?_
        refine x_callV (as := [.int (v.t 31 jk k), .int (nI (iN (v.t 31 jo k)))]) (rest := []) (i := 0) (n' := n - 1) 48 dX1_undo_45 rfl mv_X1_335 rfl rfl (hT.ks.l0 (by omega)) (xnh rfl) (by omega) (xst (Nat.le_of_ble_eq_true rfl)) (c_X1_restore hT.ks (hO k (by omega)).2 (hw.k (t := v.t)) (by omega) ?_)
        change X _ _ _ _ _ _ _ _ _ _
        refine k_nmA (v := v) (A1 := (kRest I (v.t 31 jk k) (iN (v.t 31 jo k)))) kI_kRest fun I1 hI1 => ?_
        refine x_iinc 51 [(1, .ref (x.ad 0 0)), (1, .int w), (1, .int (nI (k + 1))), xo, xo, xo] dX1_undo_48 rfl (by decide) rfl (xi_1 k) rfl ?_
        refine x_goto 2 dX1_undo_51 (by decide) ?_
        exact ih _ (by rw [← hm]; omega) (k + 1) I1 rfl (by omega) (by rw [hI1]; exact hw.rest) (by rw [kUndT_s (jk := jk) (jo := jo) (jf := jf) (js := js) (jr := jr) (jw := jw) hthL (by omega), ← hI, hI1]; exact (if_pos c23).symm)
set_option maxHeartbeats 4000000 in
set_option maxRecDepth 100000 in
theorem l2_X1_undo {G : xG} {n a b : Nat} {Q : Outcome → xS → Prop} {x : kX} {I0 : xI} {R : xR} {v : kV} {th : List xTh} (hT : KT x v th) {w : Int32} (hx : kWf (itA (kUnd2 w) I0 x.N) x.N → X G mX1_undo n a b Q (kS (itA (kUnd2 w) I0 x.N) R x v) 128 [(1, .ref (x.ad 0 0)), (1, .int w), xo, xo, xo, xo] []) (k : Nat) (I : xI) (hn : 2 ≤ n) :
    (k ≤ x.N) → (kWf I x.N) → (I = itA (kUnd2 w) I0 k) → X G mX1_undo n a b Q (kS I R x v) 65 [(1, .ref (x.ad 0 0)), (1, .int w), (1, .ref (x.ad 23 0)), (1, .int (nI x.N)), (1, .int (nI k)), xo] [] := by
  induction hm : x.N - k using Nat.strongRecOn generalizing k I with
  | _ m_ ih =>
    intro h8 hw hI
    have hnb := hT.ks.nb
    refine x_iload 67 dX1_undo_65 rfl rfl ?_
    refine x_iload_n 68 dX1_undo_67 rfl rfl ?_
    refine x_icmp_ge 128 71 dX1_undo_68 (by decide) rfl (fun c68 => ?_) (fun c68 => ?_)
    · skip
      have c68 : x.N ≤ k := (nI_leI (a := x.N) (b := k) (by omega) (by omega)).mp c68
      refine x_fgt [(1, .ref (x.ad 0 0)), (1, .int w), xo, xo, xo, xo] ⟨Or.inr rfl, Or.inr rfl, Or.inl rfl, Or.inl rfl, Or.inl rfl, Or.inl rfl, trivial⟩ ?_
      have e : k = x.N := by omega
      rw [e] at hI
      rw [hI] at hw ⊢
      exact hx hw
    · skip
      have c68 : ¬ (x.N ≤ k) := fun h => c68 ((nI_leI (a := x.N) (b := k) (by omega) (by omega)).mpr h)
      refine x_aload_n 72 dX1_undo_71 rfl rfl ?_
      refine x_iload 74 dX1_undo_72 rfl rfl ?_
      refine x_aldz 75 dX1_undo_74 rfl ar_23 rfl (hT.ks.l23 (by omega)) (xb (hT.ks.n23 (by omega)) (by omega) (by omega)) (hT.ks.z23 (by omega)) ?_
      refine x_astore 77 [(1, .ref (x.ad 0 0)), (1, .int w), (1, .ref (x.ad 23 0)), (1, .int (nI x.N)), (1, .int (nI k)), (1, .ref (x.ad 6 k))] dX1_undo_75 rfl (by decide) rfl ?_
      refine x_aload 79 dX1_undo_77 rfl rfl ?_
      refine x_iload_n 80 dX1_undo_79 rfl rfl ?_
      refine x_callV (as := [.int w]) (rest := []) (i := k) (n' := n - 1) 83 dX1_undo_80 rfl mv_X1_338 rfl rfl (hT.ks.l6 (by omega)) (xnh rfl) (by omega) (xst (Nat.le_of_ble_eq_true rfl)) (c_X7_undoSlots hT.ks (by omega) (by omega) ?_)
      change X _ _ _ _ _ _ _ _ _ _
      refine k_nmA (v := v) (A1 := (iUndoS I k w)) kI_iUndoS fun I1 hI1 => ?_
      refine x_aload 85 dX1_undo_83 rfl rfl ?_
      refine x_geti 88 dX1_undo_85 rfl fl_X1_261 (hT.ks.l6 (by omega)) ?_
      refine x_vi (w := I1 6 k 11) rfl ?_
      refine x_iload_n 89 dX1_undo_88 rfl rfl ?_
      refine x_icmp_ne 108 92 dX1_undo_89 (by decide) rfl (fun c89 => ?_) (fun c89 => ?_)
      · skip
        refine x_aload 110 dX1_undo_108 rfl rfl ?_
        refine x_geti 113 dX1_undo_110 rfl fl_X1_258 (hT.ks.l6 (by omega)) ?_
        refine x_vi (w := I1 6 k 10) rfl ?_
        refine x_iload_n 114 dX1_undo_113 rfl rfl ?_
        refine x_icmp_ne 122 117 dX1_undo_114 (by decide) rfl (fun c114 => ?_) (fun c114 => ?_)
        · skip
          refine x_iinc 125 [(1, .ref (x.ad 0 0)), (1, .int w), (1, .ref (x.ad 23 0)), (1, .int (nI x.N)), (1, .int (nI (k + 1))), (1, .ref (x.ad 6 k))] dX1_undo_122 rfl (by decide) rfl (xi_1 k) rfl ?_
          refine x_goto 65 dX1_undo_125 (by decide) ?_
          refine x_fgt [(1, .ref (x.ad 0 0)), (1, .int w), (1, .ref (x.ad 23 0)), (1, .int (nI x.N)), (1, .int (nI (k + 1))), xo] ⟨Or.inr rfl, Or.inr rfl, Or.inr rfl, Or.inr rfl, Or.inr rfl, Or.inl rfl, trivial⟩ ?_
          have eN : I1 = kUndN w (iUndoS I k w) k := by unfold kUndN; rw [if_neg (by rw [← hI1]; exact c89), hI1]
          have eC : I1 = kUndC w I1 k := by unfold kUndC; rw [if_neg c114]
          exact ih _ (by rw [← hm]; omega) (k + 1) I1 rfl (by omega) (by rw [eC, eN]; exact hw.undoS.undN.undC) (by rw [eC, eN, hI]; rfl)
        · skip
          refine x_aload 119 dX1_undo_117 rfl rfl ?_
          refine x_callV (as := []) (rest := []) (i := k) (n' := n - 1) 122 dX1_undo_119 rfl mv_X1_198 rfl rfl (hT.ks.l6 (by omega)) (xnh rfl) (by omega) (xst (Nat.le_of_ble_eq_true rfl)) (c_X7_clear hT.ks (by omega) (by omega) ?_)
          change X _ _ _ _ _ _ _ _ _ _
          refine k_nmA (v := v) (A1 := (iClr I1 k)) kI_iClr fun I2 hI2 => ?_
          refine x_iinc 125 [(1, .ref (x.ad 0 0)), (1, .int w), (1, .ref (x.ad 23 0)), (1, .int (nI x.N)), (1, .int (nI (k + 1))), (1, .ref (x.ad 6 k))] dX1_undo_122 rfl (by decide) rfl (xi_1 k) rfl ?_
          refine x_goto 65 dX1_undo_125 (by decide) ?_
          refine x_fgt [(1, .ref (x.ad 0 0)), (1, .int w), (1, .ref (x.ad 23 0)), (1, .int (nI x.N)), (1, .int (nI (k + 1))), xo] ⟨Or.inr rfl, Or.inr rfl, Or.inr rfl, Or.inr rfl, Or.inr rfl, Or.inl rfl, trivial⟩ ?_
          have eN : I1 = kUndN w (iUndoS I k w) k := by unfold kUndN; rw [if_neg (by rw [← hI1]; exact c89), hI1]
          have eC : I2 = kUndC w I1 k := by unfold kUndC; rw [if_pos c114, hI2]
          exact ih _ (by rw [← hm]; omega) (k + 1) I2 rfl (by omega) (by rw [eC, eN]; exact hw.undoS.undN.undC) (by rw [eC, eN, hI]; rfl)
      · skip
        refine x_aload 94 dX1_undo_92 rfl rfl ?_
        refine x_aload 96 dX1_undo_94 rfl rfl ?_
        refine x_geti 99 dX1_undo_96 rfl fl_X1_297 (hT.ks.l6 (by omega)) ?_
        refine x_vi (w := I1 6 k 6) rfl ?_
        refine x_puti 102 dX1_undo_99 rfl fl_X1_185 rfl rfl (hT.ks.l6 (by omega)) ?_
        refine k_nmA (v := v) (kI_xu (c := 6) rfl) fun I2 hI2 => ?_
        refine x_aload 104 dX1_undo_102 rfl rfl ?_
        refine x_iconst (v := -1) 105 dX1_undo_104 rfl rfl ?_
        refine x_puti 108 dX1_undo_105 rfl fl_X1_261 rfl rfl (hT.ks.l6 (by omega)) ?_
        refine k_nmA (v := v) (kI_xu (c := 6) rfl) fun I3 hI3 => ?_
        refine x_aload 110 dX1_undo_108 rfl rfl ?_
        refine x_geti 113 dX1_undo_110 rfl fl_X1_258 (hT.ks.l6 (by omega)) ?_
        refine x_vi (w := I3 6 k 10) rfl ?_
        refine x_iload_n 114 dX1_undo_113 rfl rfl ?_
        refine x_icmp_ne 122 117 dX1_undo_114 (by decide) rfl (fun c114 => ?_) (fun c114 => ?_)
        · skip
          refine x_iinc 125 [(1, .ref (x.ad 0 0)), (1, .int w), (1, .ref (x.ad 23 0)), (1, .int (nI x.N)), (1, .int (nI (k + 1))), (1, .ref (x.ad 6 k))] dX1_undo_122 rfl (by decide) rfl (xi_1 k) rfl ?_
          refine x_goto 65 dX1_undo_125 (by decide) ?_
          refine x_fgt [(1, .ref (x.ad 0 0)), (1, .int w), (1, .ref (x.ad 23 0)), (1, .int (nI x.N)), (1, .int (nI (k + 1))), xo] ⟨Or.inr rfl, Or.inr rfl, Or.inr rfl, Or.inr rfl, Or.inr rfl, Or.inl rfl, trivial⟩ ?_
          have eN : I3 = kUndN w (iUndoS I k w) k := by unfold kUndN; rw [if_pos (by rw [← hI1]; exact c89), hI3, hI2, hI1]
          have eC : I3 = kUndC w I3 k := by unfold kUndC; rw [if_neg c114]
          exact ih _ (by rw [← hm]; omega) (k + 1) I3 rfl (by omega) (by rw [eC, eN]; exact hw.undoS.undN.undC) (by rw [eC, eN, hI]; rfl)
        · skip
          refine x_aload 119 dX1_undo_117 rfl rfl ?_
          refine x_callV (as := []) (rest := []) (i := k) (n' := n - 1) 122 dX1_undo_119 rfl mv_X1_198 rfl rfl (hT.ks.l6 (by omega)) (xnh rfl) (by omega) (xst (Nat.le_of_ble_eq_true rfl)) (c_X7_clear hT.ks (by omega) (by omega) ?_)
          change X _ _ _ _ _ _ _ _ _ _
          refine k_nmA (v := v) (A1 := (iClr I3 k)) kI_iClr fun I4 hI4 => ?_
          refine x_iinc 125 [(1, .ref (x.ad 0 0)), (1, .int w), (1, .ref (x.ad 23 0)), (1, .int (nI x.N)), (1, .int (nI (k + 1))), (1, .ref (x.ad 6 k))] dX1_undo_122 rfl (by decide) rfl (xi_1 k) rfl ?_
          refine x_goto 65 dX1_undo_125 (by decide) ?_
          refine x_fgt [(1, .ref (x.ad 0 0)), (1, .int w), (1, .ref (x.ad 23 0)), (1, .int (nI x.N)), (1, .int (nI (k + 1))), xo] ⟨Or.inr rfl, Or.inr rfl, Or.inr rfl, Or.inr rfl, Or.inr rfl, Or.inl rfl, trivial⟩ ?_
          have eN : I3 = kUndN w (iUndoS I k w) k := by unfold kUndN; rw [if_pos (by rw [← hI1]; exact c89), hI3, hI2, hI1]
          have eC : I4 = kUndC w I3 k := by unfold kUndC; rw [if_pos c114, hI4]
          exact ih _ (by rw [← hm]; omega) (k + 1) I4 rfl (by omega) (by rw [eC, eN]; exact hw.undoS.undN.undC) (by rw [eC, eN, hI]; rfl)
set_option maxHeartbeats 4000000 in
set_option maxRecDepth 100000 in
theorem l3_X1_undo {G : xG} {n a b : Nat} {Q : Outcome → xS → Prop} {x : kX} {s : xI × xR} {v : kV} {th : List xTh} (hT : KT x v th) {w : Int32} (hx : X G mX1_undo n a b Q (kS (itS (kUnd3 w) s 16).1 (itS (kUnd3 w) s 16).2 x v) 180 [(1, .ref (x.ad 0 0)), (1, .int w), xo, xo, xo, xo] []) (k : Nat) (I : xI) (R : xR) (hn : 3 ≤ n) :
    (k ≤ 16) → ((I, R) = itS (kUnd3 w) s k) → X G mX1_undo n a b Q (kS I R x v) 139 [(1, .ref (x.ad 0 0)), (1, .int w), (1, .ref (x.ad 26 0)), (1, .int (nI 16)), (1, .int (nI k)), xo] [] := by
  induction hm : 16 - k using Nat.strongRecOn generalizing k I R with
  | _ m_ ih =>
    intro h8 hI
    refine x_iload 141 dX1_undo_139 rfl rfl ?_
    refine x_iload_n 142 dX1_undo_141 rfl rfl ?_
    refine x_icmp_ge 180 145 dX1_undo_142 (by decide) rfl (fun c142 => ?_) (fun c142 => ?_)
    · skip
      have c142 : 16 ≤ k := (nI_leI (a := 16) (b := k) (by omega) (by omega)).mp c142
      refine x_fgt [(1, .ref (x.ad 0 0)), (1, .int w), xo, xo, xo, xo] ⟨Or.inr rfl, Or.inr rfl, Or.inl rfl, Or.inl rfl, Or.inl rfl, Or.inl rfl, trivial⟩ ?_
      have e : k = 16 := by omega
      rw [e] at hI
      rw [← hI] at hx
      exact hx
    · skip
      have c142 : ¬ (16 ≤ k) := fun h => c142 ((nI_leI (a := 16) (b := k) (by omega) (by omega)).mpr h)
      refine x_aload_n 146 dX1_undo_145 rfl rfl ?_
      refine x_iload 148 dX1_undo_146 rfl rfl ?_
      refine x_aldz 149 dX1_undo_148 rfl ar_26 rfl (hT.ks.l26 (by omega)) (xb (hT.ks.n26 (by omega)) (by omega) (by omega)) (hT.ks.z26 (by omega)) ?_
      refine x_astore 151 [(1, .ref (x.ad 0 0)), (1, .int w), (1, .ref (x.ad 26 0)), (1, .int (nI 16)), (1, .int (nI k)), (1, .ref (x.ad 9 k))] dX1_undo_149 rfl (by decide) rfl ?_
      refine x_aload 153 dX1_undo_151 rfl rfl ?_
      refine x_geti 156 dX1_undo_153 rfl fl_X1_208 (hT.ks.l9 (by omega)) ?_
      refine x_vi (w := I 9 k 1) rfl ?_
      refine x_iconst (v := 3) 157 dX1_undo_156 rfl rfl ?_
      refine x_icmp_ne 174 160 dX1_undo_157 (by decide) rfl (fun c157 => ?_) (fun c157 => ?_)
      · skip
        refine x_iinc 177 [(1, .ref (x.ad 0 0)), (1, .int w), (1, .ref (x.ad 26 0)), (1, .int (nI 16)), (1, .int (nI (k + 1))), (1, .ref (x.ad 9 k))] dX1_undo_174 rfl (by decide) rfl (xi_1 k) rfl ?_
        refine x_goto 139 dX1_undo_177 (by decide) ?_
        refine x_fgt [(1, .ref (x.ad 0 0)), (1, .int w), (1, .ref (x.ad 26 0)), (1, .int (nI 16)), (1, .int (nI (k + 1))), xo] ⟨Or.inr rfl, Or.inr rfl, Or.inr rfl, Or.inr rfl, Or.inr rfl, Or.inl rfl, trivial⟩ ?_
        exact ih _ (by rw [← hm]; omega) (k + 1) I R rfl (by omega) (by show _ = kUnd3 w (itS (kUnd3 w) s k) k; rw [← hI]; unfold kUnd3; rw [if_neg (fun h => c157 h.1)])
      · skip
        refine x_aload 162 dX1_undo_160 rfl rfl ?_
        refine x_geti 165 dX1_undo_162 rfl fl_X1_341 (hT.ks.l9 (by omega)) ?_
        refine x_vi (w := I 9 k 18) rfl ?_
        refine x_iload_n 166 dX1_undo_165 rfl rfl ?_
        refine x_icmp_ne 174 169 dX1_undo_166 (by decide) rfl (fun c166 => ?_) (fun c166 => ?_)
        · skip
          refine x_iinc 177 [(1, .ref (x.ad 0 0)), (1, .int w), (1, .ref (x.ad 26 0)), (1, .int (nI 16)), (1, .int (nI (k + 1))), (1, .ref (x.ad 9 k))] dX1_undo_174 rfl (by decide) rfl (xi_1 k) rfl ?_
          refine x_goto 139 dX1_undo_177 (by decide) ?_
          refine x_fgt [(1, .ref (x.ad 0 0)), (1, .int w), (1, .ref (x.ad 26 0)), (1, .int (nI 16)), (1, .int (nI (k + 1))), xo] ⟨Or.inr rfl, Or.inr rfl, Or.inr rfl, Or.inr rfl, Or.inr rfl, Or.inl rfl, trivial⟩ ?_
          exact ih _ (by rw [← hm]; omega) (k + 1) I R rfl (by omega) (by show _ = kUnd3 w (itS (kUnd3 w) s k) k; rw [← hI]; unfold kUnd3; rw [if_neg (fun h => c166 h.2)])
        · skip
          refine x_aload 171 dX1_undo_169 rfl rfl ?_
          refine x_callV (as := []) (rest := []) (i := k) (n' := n - 1) 174 dX1_undo_171 rfl mv_X1_201 rfl rfl (hT.ks.l9 (by omega)) (xnh rfl) (by omega) (xst (Nat.le_of_ble_eq_true rfl)) (c_X10_clear hT.ks (by omega) (by omega) ?_)
          change X _ _ _ _ _ _ _ _ _ _
          refine k_nmA (v := v) (A1 := (pClrI I k)) kI_pClrI fun I1 hI1 => ?_
          refine k_nmC (v := v) (C1 := (pClrR R k)) kR_pClrR fun R1 hR1 => ?_
          refine x_iinc 177 [(1, .ref (x.ad 0 0)), (1, .int w), (1, .ref (x.ad 26 0)), (1, .int (nI 16)), (1, .int (nI (k + 1))), (1, .ref (x.ad 9 k))] dX1_undo_174 rfl (by decide) rfl (xi_1 k) rfl ?_
          refine x_goto 139 dX1_undo_177 (by decide) ?_
          refine x_fgt [(1, .ref (x.ad 0 0)), (1, .int w), (1, .ref (x.ad 26 0)), (1, .int (nI 16)), (1, .int (nI (k + 1))), xo] ⟨Or.inr rfl, Or.inr rfl, Or.inr rfl, Or.inr rfl, Or.inr rfl, Or.inl rfl, trivial⟩ ?_
          exact ih _ (by rw [← hm]; omega) (k + 1) I1 R1 rfl (by omega) (by show _ = kUnd3 w (itS (kUnd3 w) s k) k; rw [← hI]; unfold kUnd3; rw [if_pos ⟨c157, c166⟩, hI1, hR1])
set_option maxHeartbeats 4000000 in
set_option maxRecDepth 100000 in
theorem c_X1_undo {G : xG} {n : Nat} {Q : Outcome → xS → Prop} {x : kX} {I : xI} {R : xR} {v : kV} {th : List xTh} (hT : KT x v th) (hok : thOK th x.N) (hw : kWf I x.N) {w : Int32} (hn : 3 ≤ n) (hq : ∀ v' : kV, KT x v' (thEnd th w) → Q (.returned none) (kS (kUndo x.N w th (I, R)).1 (kUndo x.N w th (I, R)).2 x v')) : xCall G mX1_undo n [.ref (x.ad 0 0), .int w] (kS I R x v) Q := by
  refine x_met (L0 := [(1, .ref (x.ad 0 0)), (1, .int w), xo, xo, xo, xo]) (by decide +kernel) rfl ⟨Nat.le_of_ble_eq_true rfl, rfl⟩ ?_
  refine x_iconst (v := 0) 1 dX1_undo_0 rfl rfl ?_
  refine x_istore_n 2 [(1, .ref (x.ad 0 0)), (1, .int w), (1, .int 0), xo, xo, xo] dX1_undo_1 rfl (by decide) rfl ?_
  refine l1_X1_undo hT hok (fun hw1 => ?_) 0 I (by omega) (by omega) hw rfl
  refine x_aload_n 55 dX1_undo_54 rfl rfl ?_
  refine x_getz 58 dX1_undo_55 rfl fl_X1_115 (hT.ks.l0 (by omega)) (hT.ks.z0_5 (by omega)) ?_
  refine x_astore_n 59 [(1, .ref (x.ad 0 0)), (1, .int w), (1, .ref (x.ad 23 0)), xo, xo, xo] dX1_undo_58 rfl (by decide) rfl ?_
  refine x_aload_n 60 dX1_undo_59 rfl rfl ?_
  refine x_alen 61 dX1_undo_60 rfl ar_23 (hT.ks.l23 (by omega)) ?_
  refine x_vi (congrArg nI (hT.ks.n23 (by omega))) ?_
  refine x_istore_n 62 [(1, .ref (x.ad 0 0)), (1, .int w), (1, .ref (x.ad 23 0)), (1, .int (nI x.N)), xo, xo] dX1_undo_61 rfl (by decide) rfl ?_
  refine x_iconst (v := 0) 63 dX1_undo_62 rfl rfl ?_
  refine x_istore 65 [(1, .ref (x.ad 0 0)), (1, .int w), (1, .ref (x.ad 23 0)), (1, .int (nI x.N)), (1, .int 0), xo] dX1_undo_63 rfl (by decide) rfl ?_
  refine l2_X1_undo hT (fun hw2 => ?_) 0 _ (by omega) (by omega) hw1 rfl
  refine x_aload_n 129 dX1_undo_128 rfl rfl ?_
  refine x_getz 132 dX1_undo_129 rfl fl_X1_39 (hT.ks.l0 (by omega)) (hT.ks.z0_8 (by omega)) ?_
  refine x_astore_n 133 [(1, .ref (x.ad 0 0)), (1, .int w), (1, .ref (x.ad 26 0)), xo, xo, xo] dX1_undo_132 rfl (by decide) rfl ?_
  refine x_aload_n 134 dX1_undo_133 rfl rfl ?_
  refine x_alen 135 dX1_undo_134 rfl ar_26 (hT.ks.l26 (by omega)) ?_
  refine x_vi (congrArg nI (hT.ks.n26 (by omega))) ?_
  refine x_istore_n 136 [(1, .ref (x.ad 0 0)), (1, .int w), (1, .ref (x.ad 26 0)), (1, .int (nI 16)), xo, xo] dX1_undo_135 rfl (by decide) rfl ?_
  refine x_iconst (v := 0) 137 dX1_undo_136 rfl rfl ?_
  refine x_istore 139 [(1, .ref (x.ad 0 0)), (1, .int w), (1, .ref (x.ad 26 0)), (1, .int (nI 16)), (1, .int 0), xo] dX1_undo_137 rfl (by decide) rfl ?_
  refine l3_X1_undo (s := (itA (kUnd2 w) (kUndT w th I) x.N, R)) hT ?_ 0 _ _ (by omega) (by omega) rfl
  refine x_aload_n 181 dX1_undo_180 rfl rfl ?_
  refine x_getz 184 dX1_undo_181 rfl fl_X1_46 (hT.ks.l0 (by omega)) (hT.ks.z0_9 (by omega)) ?_
  refine x_iload_n 185 dX1_undo_184 rfl rfl ?_
  refine x_callV (as := [.int w]) (rest := []) (i := 0) (n' := n - 1) 188 dX1_undo_185 rfl mv_X1_344 rfl rfl (hT.ks.l2 (by omega)) (xnh rfl) (by omega) (xst (Nat.le_of_ble_eq_true rfl)) (k_X3_end hT (by omega) ?_)
  · skip
    intro v1 hT1
    change X _ _ _ _ _ _ _ _ _ _
    refine x_vreturn dX1_undo_188 rfl ?_
    exact hq _ hT1
