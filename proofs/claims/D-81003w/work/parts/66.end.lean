set_option maxRecDepth 100000
/-- the invariant without the things' number -/
def kKI (N : Nat) (s : kK) : Prop := kWf s.1 N ∧ kRef s.2.1 N ∧ thOK s.2.2 N ∧ kNum s.1 N
def kUv (r : kO) (v : Int32) : kQ := if r.1 = 0 then kRt r.2 v else (r, 0)
noncomputable def kDoE2 (N me : Nat) (s : kK) : kQ := if s.1 5 0 7 = 0 then kUv (kFinR N s me) 0 else kRt s 0
noncomputable def kDoE1 (N me : Nat) (r : Int32 × kK) : kQ := kAs (kKI N r.2) r.2 (if r.1 = -6 then kRt (kAbort N r.2 me) (-6) else if r.1 = -15 then kRt r.2 (-15) else kDoE2 N me (xu r.2.1 0 0 16 (r.2.1 0 0 16 + 1), r.2.2.1, r.2.2.2))
noncomputable def kDoEnd (N B D Lg : Nat) (s : kK) (me : Nat) : kQ := cif (pGrp s.1 me) (if s.1 9 me 8 ≤ 1 then kAs (kDp s.1 N B D Lg) s (kDoE1 N me (kFin N B D Lg (s.1 0 0 21) s)) else kRt (xu s.1 9 me 8 (s.1 9 me 8 - 1), s.2.1, s.2.2) (s.1 9 me 8 - 1)) (kRf s (-5))
theorem kFin_ex {N B D Lg : Nat} {w : Int32} {A : xI} {C : xR} {th : List xTh} : ∃ c A', kFin N B D Lg w (A, C, th) = (c, (A', C, th)) := by
  unfold kFin
  by_cases e : ∃ t ∈ (A, C, th).2.2, thTree t w
  · rw [cif_t e]; exact ⟨_, _, rfl⟩
  · rw [cif_f e]; exact ⟨_, _, rfl⟩
theorem kFinN {Q : Outcome → xS → Prop} {x : kX} {v : kV} {A A' : xI} {C : xR} {th : List xTh} {N B D Lg : Nat} {w c : Int32} (h : kFin N B D Lg w (A, C, th) = (c, (A', C, th))) (k : Q (.returned (some (.int c))) (kS A' C x v)) : Q (.returned (some (.int (kFin N B D Lg w (A, C, th)).1))) (kS (kFin N B D Lg w (A, C, th)).2.1 C x v) := by rw [h]; exact k

theorem dX1_doEnd_0 : decode cX1_doEnd 0 = .ok (.aload_n 0, 1) := by decide +kernel
theorem dX1_doEnd_1 : decode cX1_doEnd 1 = .ok (.getfield 371, 3) := by decide +kernel
theorem dX1_doEnd_4 : decode cX1_doEnd 4 = .ok (.invokevirtual 231, 3) := by decide +kernel
theorem dX1_doEnd_7 : decode cX1_doEnd 7 = .ok (.ifCond .ne 13, 3) := by decide +kernel
theorem dX1_doEnd_10 : decode cX1_doEnd 10 = .ok (.aload_n 0, 1) := by decide +kernel
theorem dX1_doEnd_11 : decode cX1_doEnd 11 = .ok (.getfield 53, 3) := by decide +kernel
theorem dX1_doEnd_14 : decode cX1_doEnd 14 = .ok (.bipush (-5), 2) := by decide +kernel
theorem dX1_doEnd_16 : decode cX1_doEnd 16 = .ok (.invokevirtual 364, 3) := by decide +kernel
theorem dX1_doEnd_19 : decode cX1_doEnd 19 = .ok (.athrow, 1) := by decide +kernel
theorem dX1_doEnd_20 : decode cX1_doEnd 20 = .ok (.aload_n 0, 1) := by decide +kernel
theorem dX1_doEnd_21 : decode cX1_doEnd 21 = .ok (.getfield 371, 3) := by decide +kernel
theorem dX1_doEnd_24 : decode cX1_doEnd 24 = .ok (.getfield 596, 3) := by decide +kernel
theorem dX1_doEnd_27 : decode cX1_doEnd 27 = .ok (.iconst 1, 1) := by decide +kernel
theorem dX1_doEnd_28 : decode cX1_doEnd 28 = .ok (.if_icmp .le 18, 3) := by decide +kernel
theorem dX1_doEnd_31 : decode cX1_doEnd 31 = .ok (.aload_n 0, 1) := by decide +kernel
theorem dX1_doEnd_32 : decode cX1_doEnd 32 = .ok (.getfield 371, 3) := by decide +kernel
theorem dX1_doEnd_35 : decode cX1_doEnd 35 = .ok (.dup, 1) := by decide +kernel
theorem dX1_doEnd_36 : decode cX1_doEnd 36 = .ok (.getfield 596, 3) := by decide +kernel
theorem dX1_doEnd_39 : decode cX1_doEnd 39 = .ok (.iconst 1, 1) := by decide +kernel
theorem dX1_doEnd_40 : decode cX1_doEnd 40 = .ok (.isub, 1) := by decide +kernel
theorem dX1_doEnd_41 : decode cX1_doEnd 41 = .ok (.dup_x1, 1) := by decide +kernel
theorem dX1_doEnd_42 : decode cX1_doEnd 42 = .ok (.putfield 596, 3) := by decide +kernel
theorem dX1_doEnd_45 : decode cX1_doEnd 45 = .ok (.ireturn, 1) := by decide +kernel
theorem dX1_doEnd_46 : decode cX1_doEnd 46 = .ok (.aload_n 0, 1) := by decide +kernel
theorem dX1_doEnd_47 : decode cX1_doEnd 47 = .ok (.aload_n 0, 1) := by decide +kernel
theorem dX1_doEnd_48 : decode cX1_doEnd 48 = .ok (.getfield 291, 3) := by decide +kernel
theorem dX1_doEnd_51 : decode cX1_doEnd 51 = .ok (.invokevirtual 730, 3) := by decide +kernel
theorem dX1_doEnd_54 : decode cX1_doEnd 54 = .ok (.istore_n 1, 1) := by decide +kernel
theorem dX1_doEnd_55 : decode cX1_doEnd 55 = .ok (.iload_n 1, 1) := by decide +kernel
theorem dX1_doEnd_56 : decode cX1_doEnd 56 = .ok (.bipush (-6), 2) := by decide +kernel
theorem dX1_doEnd_58 : decode cX1_doEnd 58 = .ok (.if_icmp .ne 14, 3) := by decide +kernel
theorem dX1_doEnd_61 : decode cX1_doEnd 61 = .ok (.aload_n 0, 1) := by decide +kernel
theorem dX1_doEnd_62 : decode cX1_doEnd 62 = .ok (.aload_n 0, 1) := by decide +kernel
theorem dX1_doEnd_63 : decode cX1_doEnd 63 = .ok (.getfield 371, 3) := by decide +kernel
theorem dX1_doEnd_66 : decode cX1_doEnd 66 = .ok (.invokevirtual 353, 3) := by decide +kernel
theorem dX1_doEnd_69 : decode cX1_doEnd 69 = .ok (.bipush (-6), 2) := by decide +kernel
theorem dX1_doEnd_71 : decode cX1_doEnd 71 = .ok (.ireturn, 1) := by decide +kernel
theorem dX1_doEnd_72 : decode cX1_doEnd 72 = .ok (.iload_n 1, 1) := by decide +kernel
theorem dX1_doEnd_73 : decode cX1_doEnd 73 = .ok (.bipush (-15), 2) := by decide +kernel
theorem dX1_doEnd_75 : decode cX1_doEnd 75 = .ok (.if_icmp .ne 6, 3) := by decide +kernel
theorem dX1_doEnd_78 : decode cX1_doEnd 78 = .ok (.bipush (-15), 2) := by decide +kernel
theorem dX1_doEnd_80 : decode cX1_doEnd 80 = .ok (.ireturn, 1) := by decide +kernel
theorem dX1_doEnd_81 : decode cX1_doEnd 81 = .ok (.aload_n 0, 1) := by decide +kernel
theorem dX1_doEnd_82 : decode cX1_doEnd 82 = .ok (.dup, 1) := by decide +kernel
theorem dX1_doEnd_83 : decode cX1_doEnd 83 = .ok (.getfield 170, 3) := by decide +kernel
theorem dX1_doEnd_86 : decode cX1_doEnd 86 = .ok (.iconst 1, 1) := by decide +kernel
theorem dX1_doEnd_87 : decode cX1_doEnd 87 = .ok (.iadd, 1) := by decide +kernel
theorem dX1_doEnd_88 : decode cX1_doEnd 88 = .ok (.putfield 170, 3) := by decide +kernel
theorem dX1_doEnd_91 : decode cX1_doEnd 91 = .ok (.aload_n 0, 1) := by decide +kernel
theorem dX1_doEnd_92 : decode cX1_doEnd 92 = .ok (.getfield 92, 3) := by decide +kernel
theorem dX1_doEnd_95 : decode cX1_doEnd 95 = .ok (.getfield 160, 3) := by decide +kernel
theorem dX1_doEnd_98 : decode cX1_doEnd 98 = .ok (.ifCond .ne 7, 3) := by decide +kernel
theorem dX1_doEnd_101 : decode cX1_doEnd 101 = .ok (.aload_n 0, 1) := by decide +kernel
theorem dX1_doEnd_102 : decode cX1_doEnd 102 = .ok (.invokevirtual 733, 3) := by decide +kernel
theorem dX1_doEnd_105 : decode cX1_doEnd 105 = .ok (.iconst 0, 1) := by decide +kernel
theorem dX1_doEnd_106 : decode cX1_doEnd 106 = .ok (.ireturn, 1) := by decide +kernel
set_option maxHeartbeats 400000 in
set_option maxRecDepth 100000 in
theorem c_X1_doEnd {G : xG} {n : Nat} {Q : Outcome → xS → Prop} {x : kX} {I : xI} {R : xR} {v : kV} {th : List xTh} {mm : Nat} (hT : KT x v th) (hK : KI (I, R, th) x.N mm) {D Lg : Nat} (hmm : mm + 200 < 16384) {me : Nat} (hme : R 0 0 19 = some me) (hme16 : me < 16) (hn : 15 ≤ n) (hq : kOs Q x (kDoEnd x.N x.B D Lg (I, R, th) me)) : xCall G mX1_doEnd n [.ref (x.ad 0 0)] (kS I R x v) Q := by
  refine x_met (L0 := [(1, .ref (x.ad 0 0)), xo]) (by decide +kernel) rfl ⟨Nat.le_of_ble_eq_true rfl, rfl⟩ ?_
  have hnb := hT.ks.nb
  unfold kDoEnd at hq
  refine x_aload_n 1 dX1_doEnd_0 rfl rfl ?_
  refine x_gets 4 dX1_doEnd_1 rfl fl_X1_371 (hT.ks.l0 (by omega)) hme ?_
  refine x_callV (as := []) (rest := []) (i := me) (n' := n - 1) 7 dX1_doEnd_4 rfl mv_X1_231 rfl rfl (hT.ks.l9 (by omega)) (xnh rfl) (by omega) (xst (Nat.le_of_ble_eq_true rfl)) (c_X10_hasGroup hT.ks (by omega) (by omega) ?_)
  change X _ _ _ _ _ _ _ _ _ _
  refine x_vi (w := b2i (pGrp I me)) rfl ?_
  refine x_if_ne 20 10 dX1_doEnd_7 (by decide) rfl (fun c7 => ?_) (fun c7 => ?_)
  · skip
    have c7 : pGrp I me := b2i_n0.mp c7
    rw [cif_t (show pGrp (I, R, th).1 me from c7)] at hq
    refine x_aload_n 21 dX1_doEnd_20 rfl rfl ?_
    refine x_gets 24 dX1_doEnd_21 rfl fl_X1_371 (hT.ks.l0 (by omega)) hme ?_
    refine x_geti 27 dX1_doEnd_24 rfl fl_X1_596 (hT.ks.l9 (by omega)) ?_
    refine x_vi (w := I 9 me 8) rfl ?_
    refine x_iconst (v := 1) 28 dX1_doEnd_27 rfl rfl ?_
    refine x_icmp_le 46 31 dX1_doEnd_28 (by decide) rfl (fun c28 => ?_) (fun c28 => ?_)
    · skip
      rw [if_pos (by simpa using c28)] at hq
      refine x_aload_n 47 dX1_doEnd_46 rfl rfl ?_
      refine x_aload_n 48 dX1_doEnd_47 rfl rfl ?_
      refine x_geti 51 dX1_doEnd_48 rfl fl_X1_291 (hT.ks.l0 (by omega)) ?_
      refine x_vi (w := I 0 0 21) rfl ?_
      obtain ⟨hD_, hq⟩ := hq.as
      obtain ⟨fc_, A_, hf_⟩ := kFin_ex (N := x.N) (B := x.B) (D := D) (Lg := Lg) (w := I 0 0 21) (A := I) (C := R) (th := th)
      rw [hf_] at hq
      refine x_callV (as := [.int (I 0 0 21)]) (rest := []) (i := 0) (n' := n - 1) 54 dX1_doEnd_51 rfl mv_X1_730 rfl rfl (hT.ks.l0 (by omega)) (xnh rfl) (by omega) (xst (Nat.le_of_ble_eq_true rfl)) (c_X1_finishDisk (D := D) (Lg := Lg) hT hK hD_ (by omega) (kFinN hf_ ?_))
      · skip
        change X _ _ _ _ _ _ _ _ _ _
        unfold kDoE1 at hq
        obtain ⟨hki, hq⟩ := hq.as
        have hki : kKI x.N (A_, R, th) := hki
        have hKf : KI (A_, R, th) x.N mm := KI.of hki.1 hki.2.1 hki.2.2.1 hki.2.2.2 hK.ln
        refine x_istore_n 55 [(1, .ref (x.ad 0 0)), (1, .int fc_)] dX1_doEnd_54 rfl (by decide) rfl ?_
        refine x_iload_n 56 dX1_doEnd_55 rfl rfl ?_
        refine x_bipush (v := -6) 58 dX1_doEnd_56 rfl rfl ?_
        refine x_icmp_ne 72 61 dX1_doEnd_58 (by decide) rfl (fun c58 => ?_) (fun c58 => ?_)
        · skip
          rw [if_neg (show ¬ fc_ = -6 from c58)] at hq
          refine x_iload_n 73 dX1_doEnd_72 rfl rfl ?_
          refine x_bipush (v := -15) 75 dX1_doEnd_73 rfl rfl ?_
          refine x_icmp_ne 81 78 dX1_doEnd_75 (by decide) rfl (fun c75 => ?_) (fun c75 => ?_)
          · skip
            rw [if_neg (show ¬ fc_ = -15 from c75)] at hq
            unfold kDoE2 at hq
            refine x_aload_n 82 dX1_doEnd_81 rfl rfl ?_
            refine x_dup 83 dX1_doEnd_82 rfl rfl ?_
            refine x_geti 86 dX1_doEnd_83 rfl fl_X1_170 (hT.ks.l0 (by omega)) ?_
            refine x_vi (w := A_ 0 0 16) rfl ?_
            refine x_iconst (v := 1) 87 dX1_doEnd_86 rfl rfl ?_
            refine x_iadd 88 dX1_doEnd_87 rfl ?_
            refine x_puti 91 dX1_doEnd_88 rfl fl_X1_170 rfl rfl (hT.ks.l0 (by omega)) ?_
            refine k_nmA (v := v) (kI_xu (c := 0) rfl) fun I1 hI1 => ?_
            refine x_aload_n 92 dX1_doEnd_91 rfl rfl ?_
            refine x_getz 95 dX1_doEnd_92 rfl fl_X1_92 (hT.ks.l0 (by omega)) (hT.ks.z0_0 (by omega)) ?_
            refine x_geti 98 dX1_doEnd_95 rfl fl_X1_160 (hT.ks.l5 (by omega)) ?_
            refine x_vi (w := I1 5 0 7) rfl ?_
            refine x_if_ne 105 101 dX1_doEnd_98 (by decide) rfl (fun c98 => ?_) (fun c98 => ?_)
            · skip
              rw [if_neg (show ¬ (xu A_ 0 0 16 (A_ 0 0 16 + 1)) 5 0 7 = 0 by rw [← hI1]; exact c98)] at hq
              refine x_iconst (v := 0) 106 dX1_doEnd_105 rfl rfl ?_
              refine x_ireturn dX1_doEnd_106 rfl ?_
              rw [hI1]
              exact hq.ret3 hT
            · skip
              rw [if_pos (show (xu A_ 0 0 16 (A_ 0 0 16 + 1)) 5 0 7 = 0 by rw [← hI1]; exact c98)] at hq
              refine x_aload_n 102 dX1_doEnd_101 rfl rfl ?_
              have hKg : KI (I1, R, th) x.N mm := by rw [hI1]; exact hKf.u0 rfl
              obtain ⟨r_1, hd1⟩ : ∃ r : kO, r = kFinR x.N (I1, R, th) me := ⟨_, rfl⟩
              rw [← hI1, ← hd1] at hq
              refine x_callV (as := []) (rest := []) (i := 0) (n' := n - 1) 105 dX1_doEnd_102 rfl mv_X1_733 rfl rfl (hT.ks.l0 (by omega)) (xnh rfl) (by omega) (xst (Nat.le_of_ble_eq_true rfl)) (c_X1_finishRest hT hKg (by omega) hme hme16 (by omega) (kOvN hd1 ⟨fun h99 => ?_, ⟨?_, ?_⟩⟩))
              · skip
                unfold kUv at hq; rw [if_neg (by rw [h99]; decide)] at hq
                exact hq.1 h99
              · skip
                intro hz1 w1 hU1
                change X _ _ _ _ _ _ _ _ _ _
                unfold kUv at hq; rw [if_pos hz1] at hq
                refine x_iconst (v := 0) 106 dX1_doEnd_105 rfl rfl ?_
                refine x_ireturn dX1_doEnd_106 rfl ?_
                exact hq.ret hU1
              · skip
                intro hz1 w1 hU1
                unfold kUv at hq; rw [if_neg hz1] at hq
                exact hq.no hz1 hU1
          · skip
            rw [if_pos (show fc_ = -15 from c75)] at hq
            refine x_bipush (v := -15) 80 dX1_doEnd_78 rfl rfl ?_
            refine x_ireturn dX1_doEnd_80 rfl ?_
            exact hq.ret3 hT
        · skip
          rw [if_pos (show fc_ = -6 from c58)] at hq
          refine x_aload_n 62 dX1_doEnd_61 rfl rfl ?_
          refine x_aload_n 63 dX1_doEnd_62 rfl rfl ?_
          refine x_gets 66 dX1_doEnd_63 rfl fl_X1_371 (hT.ks.l0 (by omega)) hme ?_
          obtain ⟨q_, hqd⟩ : ∃ q : kK, q = kAbort x.N (A_, R, th) me := ⟨_, rfl⟩
          rw [← hqd] at hq
          refine x_callV (as := [.ref (x.ad 9 me)]) (rest := []) (i := 0) (n' := n - 1) 69 dX1_doEnd_66 rfl mv_X1_353 rfl rfl (hT.ks.l0 (by omega)) (xnh rfl) (by omega) (xst (Nat.le_of_ble_eq_true rfl)) (c_X1_abort (p := me) hT hKf (by omega) (by omega) (kAbN hqd ?_))
          · skip
            intro wq hUq
            change X _ _ _ _ _ _ _ _ _ _
            refine x_bipush (v := -6) 71 dX1_doEnd_69 rfl rfl ?_
            refine x_ireturn dX1_doEnd_71 rfl ?_
            exact hq.ret hUq
    · skip
      rw [if_neg (by simpa using c28)] at hq
      refine x_aload_n 32 dX1_doEnd_31 rfl rfl ?_
      refine x_gets 35 dX1_doEnd_32 rfl fl_X1_371 (hT.ks.l0 (by omega)) hme ?_
      refine x_dup 36 dX1_doEnd_35 rfl rfl ?_
      refine x_geti 39 dX1_doEnd_36 rfl fl_X1_596 (hT.ks.l9 (by omega)) ?_
      refine x_vi (w := I 9 me 8) rfl ?_
      refine x_iconst (v := 1) 40 dX1_doEnd_39 rfl rfl ?_
      refine x_isub 41 dX1_doEnd_40 rfl ?_
      refine x_nmi fun x1 hx1 => ?_
      refine x_dup_x1 42 dX1_doEnd_41 rfl rfl rfl ?_
      refine x_puti 45 dX1_doEnd_42 rfl fl_X1_596 rfl rfl (hT.ks.l9 (by omega)) ?_
      refine k_nmA (v := v) (kI_xu (c := 9) rfl) fun I1 hI1 => ?_
      refine x_ireturn dX1_doEnd_45 rfl ?_
      rw [hI1, hx1]
      exact hq.ret3 hT
  · skip
    have c7 : ¬ (pGrp I me) := b2i_0.mp c7
    rw [cif_f (show ¬ pGrp (I, R, th).1 me from c7)] at hq
    refine x_aload_n 11 dX1_doEnd_10 rfl rfl ?_
    refine x_getz 14 dX1_doEnd_11 rfl fl_X1_53 (hT.ks.l0 (by omega)) (hT.ks.z0_10 (by omega)) ?_
    refine x_bipush (v := -5) 16 dX1_doEnd_14 rfl rfl ?_
    refine x_callV (as := [.int (-5)]) (rest := []) (i := 0) (n' := n - 1) 19 dX1_doEnd_16 rfl mv_X1_364 rfl rfl (hT.ks.l3 (by omega)) (xnh rfl) (by omega) (xst (Nat.le_of_ble_eq_true rfl)) (c_X4_by hT.ks (by omega) ?_)
    change X _ _ _ _ _ _ _ _ _ _
    refine k_nmA (v := v) (A1 := (xu I 3 0 0 ((-5)))) (by (repeat (first | rw [kI_xu] | rw [kI_xur] | rw [kI_xfil])) <;> rfl) fun I1 hI1 => ?_
    refine x_athrow dX1_doEnd_19 (xnh rfl) ?_
    rw [hI1]
    exact hq.thr (by decide) hT
def kRow0 (C : xR) (me : Nat) : xR := xur C 46 me (va_cpy (C 29 0) (C 46 me) 0 0 8)
noncomputable def kFc1 (N me : Nat) (c : Int32) (s : kK) : kK := if c = -6 then ((kUndo N 16 s.2.2 (s.1, s.2.1)).1, kRow0 (kUndo N 16 s.2.2 (s.1, s.2.1)).2 me, thEnd s.2.2 16) else s
noncomputable def kFc2 (N me : Nat) (t : Int32) (r : Int32 × kK) : kQ := kAs (kKI N r.2) r.2 (kRt (kClrA N 16 (kFc1 N me r.1 r.2).1, (kFc1 N me r.1 r.2).2.1, thEnd (kFc1 N me r.1 r.2).2.2 16) (if r.1 = 0 then t else r.1))
noncomputable def kFinC (N B D Lg : Nat) (s : kK) (me : Nat) (t : Int32) : kQ := kAs (kDp s.1 N B D Lg) s (kFc2 N me t (kFin N B D Lg 16 s))
theorem kR_kRow0 {C u : xR} {me : Nat} : kRow0 (kR C u) me = kR (kRow0 C me) u := by unfold kRow0; rw [kR_xur (c := 46) rfl]; rfl
theorem cx_undo2 {N : Nat} {w : Int32} {th : List xTh} {A : xI} {C : xR} {u : xI × xR} (h : u = kUndo N w th (A, C)) : kCx C u.2 := by rw [h]; exact cx_undo (s := (A, C))
theorem rf_undo2 {N M : Nat} {w : Int32} {th : List xTh} {A : xI} {C : xR} {u : xI × xR} (h : u = kUndo N w th (A, C)) (hr : kRef C M) (e : M = N := by rfl) : kRef u.2 M := by subst e; rw [h]; exact kRef.undo (s := (A, C)) hr
theorem kUnN {Q : Outcome → xS → Prop} {x : kX} {u t : xI × xR} {l : List xTh} (h : u = t) (k : ∀ v' : kV, KT x v' l → Q (.returned none) (kS u.1 u.2 x v')) : ∀ v' : kV, KT x v' l → Q (.returned none) (kS t.1 t.2 x v') := by rw [← h]; exact k
theorem dX1_finishCall_0 : decode cX1_finishCall 0 = .ok (.aload_n 0, 1) := by decide +kernel
theorem dX1_finishCall_1 : decode cX1_finishCall 1 = .ok (.bipush 16, 2) := by decide +kernel
theorem dX1_finishCall_3 : decode cX1_finishCall 3 = .ok (.invokevirtual 730, 3) := by decide +kernel
theorem dX1_finishCall_6 : decode cX1_finishCall 6 = .ok (.istore_n 2, 1) := by decide +kernel
theorem dX1_finishCall_7 : decode cX1_finishCall 7 = .ok (.iload_n 2, 1) := by decide +kernel
theorem dX1_finishCall_8 : decode cX1_finishCall 8 = .ok (.bipush (-6), 2) := by decide +kernel
theorem dX1_finishCall_10 : decode cX1_finishCall 10 = .ok (.if_icmp .ne 27, 3) := by decide +kernel
theorem dX1_finishCall_13 : decode cX1_finishCall 13 = .ok (.aload_n 0, 1) := by decide +kernel
theorem dX1_finishCall_14 : decode cX1_finishCall 14 = .ok (.bipush 16, 2) := by decide +kernel
theorem dX1_finishCall_16 : decode cX1_finishCall 16 = .ok (.invokevirtual 349, 3) := by decide +kernel
theorem dX1_finishCall_19 : decode cX1_finishCall 19 = .ok (.aload_n 0, 1) := by decide +kernel
theorem dX1_finishCall_20 : decode cX1_finishCall 20 = .ok (.getfield 64, 3) := by decide +kernel
theorem dX1_finishCall_23 : decode cX1_finishCall 23 = .ok (.iconst 0, 1) := by decide +kernel
theorem dX1_finishCall_24 : decode cX1_finishCall 24 = .ok (.aload_n 0, 1) := by decide +kernel
theorem dX1_finishCall_25 : decode cX1_finishCall 25 = .ok (.getfield 371, 3) := by decide +kernel
theorem dX1_finishCall_28 : decode cX1_finishCall 28 = .ok (.getfield 246, 3) := by decide +kernel
theorem dX1_finishCall_31 : decode cX1_finishCall 31 = .ok (.iconst 0, 1) := by decide +kernel
theorem dX1_finishCall_32 : decode cX1_finishCall 32 = .ok (.bipush 8, 2) := by decide +kernel
theorem dX1_finishCall_34 : decode cX1_finishCall 34 = .ok (.invokestatic 148, 3) := by decide +kernel
theorem dX1_finishCall_37 : decode cX1_finishCall 37 = .ok (.aload_n 0, 1) := by decide +kernel
theorem dX1_finishCall_38 : decode cX1_finishCall 38 = .ok (.bipush 16, 2) := by decide +kernel
theorem dX1_finishCall_40 : decode cX1_finishCall 40 = .ok (.invokevirtual 736, 3) := by decide +kernel
theorem dX1_finishCall_43 : decode cX1_finishCall 43 = .ok (.aload_n 0, 1) := by decide +kernel
theorem dX1_finishCall_44 : decode cX1_finishCall 44 = .ok (.getfield 46, 3) := by decide +kernel
theorem dX1_finishCall_47 : decode cX1_finishCall 47 = .ok (.bipush 16, 2) := by decide +kernel
theorem dX1_finishCall_49 : decode cX1_finishCall 49 = .ok (.invokevirtual 344, 3) := by decide +kernel
theorem dX1_finishCall_52 : decode cX1_finishCall 52 = .ok (.iload_n 2, 1) := by decide +kernel
theorem dX1_finishCall_53 : decode cX1_finishCall 53 = .ok (.ifCond .ne 7, 3) := by decide +kernel
theorem dX1_finishCall_56 : decode cX1_finishCall 56 = .ok (.iload_n 1, 1) := by decide +kernel
theorem dX1_finishCall_57 : decode cX1_finishCall 57 = .ok (.goto 4, 3) := by decide +kernel
theorem dX1_finishCall_60 : decode cX1_finishCall 60 = .ok (.iload_n 2, 1) := by decide +kernel
theorem dX1_finishCall_61 : decode cX1_finishCall 61 = .ok (.ireturn, 1) := by decide +kernel
set_option maxHeartbeats 400000 in
set_option maxRecDepth 100000 in
theorem c_X1_finishCall {G : xG} {n : Nat} {Q : Outcome → xS → Prop} {x : kX} {I : xI} {R : xR} {v : kV} {th : List xTh} {mm : Nat} (hT : KT x v th) (hK : KI (I, R, th) x.N mm) {D Lg : Nat} {tl : Int32} (hmm : mm + 20 < 16384) {me : Nat} (hme : R 0 0 19 = some me) (hme16 : me < 16) (hn : 8 ≤ n) (hq : kOs Q x (kFinC x.N x.B D Lg (I, R, th) me tl)) : xCall G mX1_finishCall n [.ref (x.ad 0 0), .int tl] (kS I R x v) Q := by
  refine x_met (L0 := [(1, .ref (x.ad 0 0)), (1, .int tl), xo]) (by decide +kernel) rfl ⟨Nat.le_of_ble_eq_true rfl, rfl⟩ ?_
  have hnb := hT.ks.nb
  unfold kFinC at hq
  refine x_aload_n 1 dX1_finishCall_0 rfl rfl ?_
  refine x_bipush (v := 16) 3 dX1_finishCall_1 rfl rfl ?_
  obtain ⟨hD_, hq⟩ := hq.as
  obtain ⟨fc_, A_, hf_⟩ := kFin_ex (N := x.N) (B := x.B) (D := D) (Lg := Lg) (w := 16) (A := I) (C := R) (th := th)
  rw [hf_] at hq
  refine x_callV (as := [.int 16]) (rest := []) (i := 0) (n' := n - 1) 6 dX1_finishCall_3 rfl mv_X1_730 rfl rfl (hT.ks.l0 (by omega)) (xnh rfl) (by omega) (xst (Nat.le_of_ble_eq_true rfl)) (c_X1_finishDisk (D := D) (Lg := Lg) hT hK hD_ (by omega) (kFinN hf_ ?_))
  · skip
    change X _ _ _ _ _ _ _ _ _ _
    unfold kFc2 at hq
    obtain ⟨hki, hq⟩ := hq.as
    have hki : kKI x.N (A_, R, th) := hki
    have hKf : KI (A_, R, th) x.N mm := KI.of hki.1 hki.2.1 hki.2.2.1 hki.2.2.2 hK.ln
    refine x_istore_n 7 [(1, .ref (x.ad 0 0)), (1, .int tl), (1, .int fc_)] dX1_finishCall_6 rfl (by decide) rfl ?_
    refine x_iload_n 8 dX1_finishCall_7 rfl rfl ?_
    refine x_bipush (v := -6) 10 dX1_finishCall_8 rfl rfl ?_
    refine x_icmp_ne 37 13 dX1_finishCall_10 (by decide) rfl (fun c10 => ?_) (fun c10 => ?_)
    · skip
      have eF : kFc1 x.N me fc_ (A_, R, th) = (A_, R, th) := by unfold kFc1; rw [if_neg c10]
      rw [eF] at hq
      dsimp only at hq
      refine x_aload_n 38 dX1_finishCall_37 rfl rfl ?_
      refine x_bipush (v := 16) 40 dX1_finishCall_38 rfl rfl ?_
      refine x_callV (as := [.int 16]) (rest := []) (i := 0) (n' := n - 1) 43 dX1_finishCall_40 rfl mv_X1_736 rfl rfl (hT.ks.l0 (by omega)) (xnh rfl) (by omega) (xst (Nat.le_of_ble_eq_true rfl)) (c_X1_clearMarks hT.ks (by omega) (kClrQ ?_))
      change X _ _ _ _ _ _ _ _ _ _
      refine k_nmA (v := v) (A1 := (kClrA x.N 16 A_)) kI_kClrA fun I1 hI1 => ?_
      refine x_aload_n 44 dX1_finishCall_43 rfl rfl ?_
      refine x_getz 47 dX1_finishCall_44 rfl fl_X1_46 (hT.ks.l0 (by omega)) (hT.ks.z0_9 (by omega)) ?_
      refine x_bipush (v := 16) 49 dX1_finishCall_47 rfl rfl ?_
      refine x_callV (as := [.int 16]) (rest := []) (i := 0) (n' := n - 1) 52 dX1_finishCall_49 rfl mv_X1_344 rfl rfl (hT.ks.l2 (by omega)) (xnh rfl) (by omega) (xst (Nat.le_of_ble_eq_true rfl)) (k_X3_end hT (by omega) ?_)
      · skip
        intro we hUe
        change X _ _ _ _ _ _ _ _ _ _
        refine x_iload_n 53 dX1_finishCall_52 rfl rfl ?_
        refine x_if_ne 60 56 dX1_finishCall_53 (by decide) rfl (fun c53 => ?_) (fun c53 => ?_)
        · skip
          refine x_iload_n 61 dX1_finishCall_60 rfl rfl ?_
          refine x_ireturn dX1_finishCall_61 rfl ?_
          rw [if_neg c53] at hq
          rw [hI1]
          exact hq.ret3 hUe
        · skip
          refine x_iload_n 57 dX1_finishCall_56 rfl rfl ?_
          refine x_goto 61 dX1_finishCall_57 (by decide) ?_
          refine x_ireturn dX1_finishCall_61 rfl ?_
          rw [if_pos c53] at hq
          rw [hI1]
          exact hq.ret3 hUe
    · skip
      refine x_aload_n 14 dX1_finishCall_13 rfl rfl ?_
      refine x_bipush (v := 16) 16 dX1_finishCall_14 rfl rfl ?_
      obtain ⟨u_, hu_⟩ : ∃ u : xI × xR, u = kUndo x.N 16 th (A_, R) := ⟨_, rfl⟩
      have hmeU : u_.2 0 0 19 = some me := ((cx_undo2 hu_) 0 0 19 rfl).trans hme
      have hrU : kRef u_.2 x.N := rf_undo2 hu_ hKf.rf
      refine x_callV (as := [.int 16]) (rest := []) (i := 0) (n' := n - 1) 19 dX1_finishCall_16 rfl mv_X1_349 rfl rfl (hT.ks.l0 (by omega)) (xnh rfl) (by omega) (xst (Nat.le_of_ble_eq_true rfl)) (c_X1_undo hT hKf.ok hKf.wf (by omega) (kUnN hu_ ?_))
      · skip
        intro v1 hT1
        change X _ _ _ _ _ _ _ _ _ _
        refine x_aload_n 20 dX1_finishCall_19 rfl rfl ?_
        refine x_getz 23 dX1_finishCall_20 rfl fl_X1_64 (hT1.ks.l0 (by omega)) (hT1.ks.z0_20 (by omega)) ?_
        refine x_iconst (v := 0) 24 dX1_finishCall_23 rfl rfl ?_
        refine x_aload_n 25 dX1_finishCall_24 rfl rfl ?_
        refine x_gets 28 dX1_finishCall_25 rfl fl_X1_371 (hT1.ks.l0 (by omega)) hmeU ?_
        refine x_getz 31 dX1_finishCall_28 rfl fl_X1_246 (hT1.ks.l9 (by omega)) (hT1.ks.z9_4 (by omega)) ?_
        refine x_iconst (v := 0) 32 dX1_finishCall_31 rfl rfl ?_
        refine x_bipush (v := 8) 34 dX1_finishCall_32 rfl rfl ?_
        refine x_copyr (sp := 0) (dp := 0) (m := 8) 37 dX1_finishCall_34 rfl cp_X1_148 ar_29 ar_46 ⟨by decide, _, _, _, rfl, rfl⟩ (hT1.ks.l29 (by omega)) (hT1.ks.l46 (by omega)) (by decide) (by omega) (xst (Nat.le_of_ble_eq_true rfl)) ⟨by omega, by omega, by omega⟩ (by rw [(hT1.ks.n29 (by omega))]; omega) (by rw [(hT1.ks.n46 (by omega))]; omega) (fun k j h _ => hT1.ks.l7 (hrU.gr h)) ?_
        refine k_nmC (v := v1) (C1 := xur u_.2 46 me (va_cpy (u_.2 29 0) (u_.2 46 me) 0 0 8)) (kR_xur (c := 46) rfl) fun R1 hR1 => ?_
        have eF : kFc1 x.N me fc_ (A_, R, th) = (u_.1, R1, thEnd th 16) := by unfold kFc1; rw [if_pos c10]; dsimp only; rw [← hu_, hR1]; unfold kRow0; rfl
        rw [eF] at hq
        dsimp only at hq
        refine x_aload_n 38 dX1_finishCall_37 rfl rfl ?_
        refine x_bipush (v := 16) 40 dX1_finishCall_38 rfl rfl ?_
        refine x_callV (as := [.int 16]) (rest := []) (i := 0) (n' := n - 1) 43 dX1_finishCall_40 rfl mv_X1_736 rfl rfl (hT1.ks.l0 (by omega)) (xnh rfl) (by omega) (xst (Nat.le_of_ble_eq_true rfl)) (c_X1_clearMarks hT1.ks (by omega) (kClrQ ?_))
        change X _ _ _ _ _ _ _ _ _ _
        refine k_nmA (v := v1) (A1 := (kClrA x.N 16 u_.1)) kI_kClrA fun I1 hI1 => ?_
        refine x_aload_n 44 dX1_finishCall_43 rfl rfl ?_
        refine x_getz 47 dX1_finishCall_44 rfl fl_X1_46 (hT1.ks.l0 (by omega)) (hT1.ks.z0_9 (by omega)) ?_
        refine x_bipush (v := 16) 49 dX1_finishCall_47 rfl rfl ?_
        refine x_callV (as := [.int 16]) (rest := []) (i := 0) (n' := n - 1) 52 dX1_finishCall_49 rfl mv_X1_344 rfl rfl (hT1.ks.l2 (by omega)) (xnh rfl) (by omega) (xst (Nat.le_of_ble_eq_true rfl)) (k_X3_end hT1 (by omega) ?_)
        · skip
          intro we hUe
          change X _ _ _ _ _ _ _ _ _ _
          refine x_iload_n 53 dX1_finishCall_52 rfl rfl ?_
          refine x_if_ne 60 56 dX1_finishCall_53 (by decide) rfl (fun c53 => ?_) (fun c53 => ?_)
          · skip
            refine x_iload_n 61 dX1_finishCall_60 rfl rfl ?_
            refine x_ireturn dX1_finishCall_61 rfl ?_
            rw [if_neg c53] at hq
            rw [hI1]
            exact hq.ret3 hUe
          · skip
            refine x_iload_n 57 dX1_finishCall_56 rfl rfl ?_
            refine x_goto 61 dX1_finishCall_57 (by decide) ?_
            refine x_ireturn dX1_finishCall_61 rfl ?_
            rw [if_pos c53] at hq
            rw [hI1]
            exact hq.ret3 hUe
