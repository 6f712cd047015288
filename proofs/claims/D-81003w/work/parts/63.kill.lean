set_option maxRecDepth 100000
/-- kills are few, and each but once -/
def kKw (s : kK) (me t : Nat) : Prop := ∃ m, (s.1 9 me 16 = nI m ∧ m ≤ 16) ∧ ((∀ j, j < m → ¬ s.1 48 me j = nI t) → m < 16)
noncomputable def kAbt (N : Nat) (s : kK) (p : Nat) : kK := cif (pGrp s.1 p) (kAbort N s p) s
noncomputable def kKl3 (N : Nat) (s : kK) (me t : Nat) : kQ := if s.1 0 0 21 = 16 then kU (kMeetE N s me t) fun s => kRt (kEnd (kAbt N s t) t 137) 0 else kAs (kKw s me t) s (kRt (kKil s.1 me (nI t), s.2.1, s.2.2) 0)
noncomputable def kKl2 (N : Nat) (s : kK) (me t : Nat) (sg : Int32) : kQ := kU (kAccess N s me 7 (nI t) 0 0 0) fun s => if s.1 9 t 1 = 1 then (if sg = 9 then (if t = 0 then kRf s (-5) else kU (kAccess N s me 7 (nI t) 0 0 1) fun s => kKl3 N s me t)
    else kU (kAccess N s me 8 (nI t) 0 0 1) fun s => kRt (xu s.1 9 t 6 (s.1 9 t 6 ||| ((1 : Int32) <<< (sg &&& 31))), s.2.1, s.2.2) 0) else kRf s (-2)
noncomputable def kDoKill (N : Nat) (s : kK) (me t : Nat) (sg : Int32) : kQ := kKl2 N (cif (s.1 0 0 21 = 16 ∧ sg = 9 ∧ pGrp s.1 t) (xu s.1 0 0 22 (nI t)) s.1, s.2.1, s.2.2) me t sg
theorem kAbN {Q : Outcome → xS → Prop} {x : kX} {q t : kK} (h : q = t) (k : ∀ v' : kV, KT x v' q.2.2 → Q (.returned none) (kS q.1 q.2.1 x v')) : ∀ v' : kV, KT x v' t.2.2 → Q (.returned none) (kS t.1 t.2.1 x v') := by rw [← h]; exact k
theorem dX1_doKill_0 : decode cX1_doKill 0 = .ok (.aload_n 0, 1) := by decide +kernel
theorem dX1_doKill_1 : decode cX1_doKill 1 = .ok (.getfield 39, 3) := by decide +kernel
theorem dX1_doKill_4 : decode cX1_doKill 4 = .ok (.iload_n 1, 1) := by decide +kernel
theorem dX1_doKill_5 : decode cX1_doKill 5 = .ok (.aaload, 1) := by decide +kernel
theorem dX1_doKill_6 : decode cX1_doKill 6 = .ok (.astore_n 3, 1) := by decide +kernel
theorem dX1_doKill_7 : decode cX1_doKill 7 = .ok (.aload_n 0, 1) := by decide +kernel
theorem dX1_doKill_8 : decode cX1_doKill 8 = .ok (.getfield 291, 3) := by decide +kernel
theorem dX1_doKill_11 : decode cX1_doKill 11 = .ok (.bipush 16, 2) := by decide +kernel
theorem dX1_doKill_13 : decode cX1_doKill 13 = .ok (.if_icmp .ne 21, 3) := by decide +kernel
theorem dX1_doKill_16 : decode cX1_doKill 16 = .ok (.iload_n 2, 1) := by decide +kernel
theorem dX1_doKill_17 : decode cX1_doKill 17 = .ok (.bipush 9, 2) := by decide +kernel
theorem dX1_doKill_19 : decode cX1_doKill 19 = .ok (.if_icmp .ne 15, 3) := by decide +kernel
theorem dX1_doKill_22 : decode cX1_doKill 22 = .ok (.aload_n 3, 1) := by decide +kernel
theorem dX1_doKill_23 : decode cX1_doKill 23 = .ok (.invokevirtual 231, 3) := by decide +kernel
theorem dX1_doKill_26 : decode cX1_doKill 26 = .ok (.ifCond .eq 8, 3) := by decide +kernel
theorem dX1_doKill_29 : decode cX1_doKill 29 = .ok (.aload_n 0, 1) := by decide +kernel
theorem dX1_doKill_30 : decode cX1_doKill 30 = .ok (.iload_n 1, 1) := by decide +kernel
theorem dX1_doKill_31 : decode cX1_doKill 31 = .ok (.putfield 67, 3) := by decide +kernel
theorem dX1_doKill_34 : decode cX1_doKill 34 = .ok (.aload_n 0, 1) := by decide +kernel
theorem dX1_doKill_35 : decode cX1_doKill 35 = .ok (.bipush 7, 2) := by decide +kernel
theorem dX1_doKill_37 : decode cX1_doKill 37 = .ok (.iload_n 1, 1) := by decide +kernel
theorem dX1_doKill_38 : decode cX1_doKill 38 = .ok (.invokevirtual 650, 3) := by decide +kernel
theorem dX1_doKill_41 : decode cX1_doKill 41 = .ok (.aload_n 3, 1) := by decide +kernel
theorem dX1_doKill_42 : decode cX1_doKill 42 = .ok (.getfield 208, 3) := by decide +kernel
theorem dX1_doKill_45 : decode cX1_doKill 45 = .ok (.iconst 1, 1) := by decide +kernel
theorem dX1_doKill_46 : decode cX1_doKill 46 = .ok (.if_icmp .eq 13, 3) := by decide +kernel
theorem dX1_doKill_49 : decode cX1_doKill 49 = .ok (.aload_n 0, 1) := by decide +kernel
theorem dX1_doKill_50 : decode cX1_doKill 50 = .ok (.getfield 53, 3) := by decide +kernel
theorem dX1_doKill_53 : decode cX1_doKill 53 = .ok (.bipush (-2), 2) := by decide +kernel
theorem dX1_doKill_55 : decode cX1_doKill 55 = .ok (.invokevirtual 364, 3) := by decide +kernel
theorem dX1_doKill_58 : decode cX1_doKill 58 = .ok (.athrow, 1) := by decide +kernel
theorem dX1_doKill_59 : decode cX1_doKill 59 = .ok (.iload_n 2, 1) := by decide +kernel
theorem dX1_doKill_60 : decode cX1_doKill 60 = .ok (.bipush 9, 2) := by decide +kernel
theorem dX1_doKill_62 : decode cX1_doKill 62 = .ok (.if_icmp .eq 24, 3) := by decide +kernel
theorem dX1_doKill_65 : decode cX1_doKill 65 = .ok (.aload_n 0, 1) := by decide +kernel
theorem dX1_doKill_66 : decode cX1_doKill 66 = .ok (.bipush 8, 2) := by decide +kernel
theorem dX1_doKill_68 : decode cX1_doKill 68 = .ok (.iload_n 1, 1) := by decide +kernel
theorem dX1_doKill_69 : decode cX1_doKill 69 = .ok (.invokevirtual 588, 3) := by decide +kernel
theorem dX1_doKill_72 : decode cX1_doKill 72 = .ok (.aload_n 3, 1) := by decide +kernel
theorem dX1_doKill_73 : decode cX1_doKill 73 = .ok (.dup, 1) := by decide +kernel
theorem dX1_doKill_74 : decode cX1_doKill 74 = .ok (.getfield 319, 3) := by decide +kernel
theorem dX1_doKill_77 : decode cX1_doKill 77 = .ok (.iconst 1, 1) := by decide +kernel
theorem dX1_doKill_78 : decode cX1_doKill 78 = .ok (.iload_n 2, 1) := by decide +kernel
theorem dX1_doKill_79 : decode cX1_doKill 79 = .ok (.ishl, 1) := by decide +kernel
theorem dX1_doKill_80 : decode cX1_doKill 80 = .ok (.ior, 1) := by decide +kernel
theorem dX1_doKill_81 : decode cX1_doKill 81 = .ok (.putfield 319, 3) := by decide +kernel
theorem dX1_doKill_84 : decode cX1_doKill 84 = .ok (.iconst 0, 1) := by decide +kernel
theorem dX1_doKill_85 : decode cX1_doKill 85 = .ok (.ireturn, 1) := by decide +kernel
theorem dX1_doKill_86 : decode cX1_doKill 86 = .ok (.iload_n 1, 1) := by decide +kernel
theorem dX1_doKill_87 : decode cX1_doKill 87 = .ok (.ifCond .ne 13, 3) := by decide +kernel
theorem dX1_doKill_90 : decode cX1_doKill 90 = .ok (.aload_n 0, 1) := by decide +kernel
theorem dX1_doKill_91 : decode cX1_doKill 91 = .ok (.getfield 53, 3) := by decide +kernel
theorem dX1_doKill_94 : decode cX1_doKill 94 = .ok (.bipush (-5), 2) := by decide +kernel
theorem dX1_doKill_96 : decode cX1_doKill 96 = .ok (.invokevirtual 364, 3) := by decide +kernel
theorem dX1_doKill_99 : decode cX1_doKill 99 = .ok (.athrow, 1) := by decide +kernel
theorem dX1_doKill_100 : decode cX1_doKill 100 = .ok (.aload_n 0, 1) := by decide +kernel
theorem dX1_doKill_101 : decode cX1_doKill 101 = .ok (.bipush 7, 2) := by decide +kernel
theorem dX1_doKill_103 : decode cX1_doKill 103 = .ok (.iload_n 1, 1) := by decide +kernel
theorem dX1_doKill_104 : decode cX1_doKill 104 = .ok (.invokevirtual 588, 3) := by decide +kernel
theorem dX1_doKill_107 : decode cX1_doKill 107 = .ok (.aload_n 0, 1) := by decide +kernel
theorem dX1_doKill_108 : decode cX1_doKill 108 = .ok (.getfield 291, 3) := by decide +kernel
theorem dX1_doKill_111 : decode cX1_doKill 111 = .ok (.bipush 16, 2) := by decide +kernel
theorem dX1_doKill_113 : decode cX1_doKill 113 = .ok (.if_icmp .eq 13, 3) := by decide +kernel
theorem dX1_doKill_116 : decode cX1_doKill 116 = .ok (.aload_n 0, 1) := by decide +kernel
theorem dX1_doKill_117 : decode cX1_doKill 117 = .ok (.getfield 371, 3) := by decide +kernel
theorem dX1_doKill_120 : decode cX1_doKill 120 = .ok (.iload_n 1, 1) := by decide +kernel
theorem dX1_doKill_121 : decode cX1_doKill 121 = .ok (.invokevirtual 724, 3) := by decide +kernel
theorem dX1_doKill_124 : decode cX1_doKill 124 = .ok (.iconst 0, 1) := by decide +kernel
theorem dX1_doKill_125 : decode cX1_doKill 125 = .ok (.ireturn, 1) := by decide +kernel
theorem dX1_doKill_126 : decode cX1_doKill 126 = .ok (.aload_n 0, 1) := by decide +kernel
theorem dX1_doKill_127 : decode cX1_doKill 127 = .ok (.aload_n 3, 1) := by decide +kernel
theorem dX1_doKill_128 : decode cX1_doKill 128 = .ok (.invokevirtual 709, 3) := by decide +kernel
theorem dX1_doKill_131 : decode cX1_doKill 131 = .ok (.aload_n 3, 1) := by decide +kernel
theorem dX1_doKill_132 : decode cX1_doKill 132 = .ok (.invokevirtual 231, 3) := by decide +kernel
theorem dX1_doKill_135 : decode cX1_doKill 135 = .ok (.ifCond .eq 8, 3) := by decide +kernel
theorem dX1_doKill_138 : decode cX1_doKill 138 = .ok (.aload_n 0, 1) := by decide +kernel
theorem dX1_doKill_139 : decode cX1_doKill 139 = .ok (.aload_n 3, 1) := by decide +kernel
theorem dX1_doKill_140 : decode cX1_doKill 140 = .ok (.invokevirtual 353, 3) := by decide +kernel
theorem dX1_doKill_143 : decode cX1_doKill 143 = .ok (.aload_n 0, 1) := by decide +kernel
theorem dX1_doKill_144 : decode cX1_doKill 144 = .ok (.aload_n 3, 1) := by decide +kernel
theorem dX1_doKill_145 : decode cX1_doKill 145 = .ok (.sipush 137, 3) := by decide +kernel
theorem dX1_doKill_148 : decode cX1_doKill 148 = .ok (.invokevirtual 712, 3) := by decide +kernel
theorem dX1_doKill_151 : decode cX1_doKill 151 = .ok (.iconst 0, 1) := by decide +kernel
theorem dX1_doKill_152 : decode cX1_doKill 152 = .ok (.ireturn, 1) := by decide +kernel
set_option maxHeartbeats 4000000 in
set_option maxRecDepth 100000 in
theorem s34_kill {G : xG} {n a b : Nat} {Q : Outcome → xS → Prop} {x : kX} {I : xI} {R : xR} {v : kV} {th : List xTh} {mm : Nat} (hT : KT x v th) (hK : KI (I, R, th) x.N mm) {t : Nat} {sg : Int32} (ht : t < 16) (hmm : mm + 150 < 16384) {me : Nat} (hme : R 0 0 19 = some me) (hme16 : me < 16) (hn : 13 ≤ n) (hq : kOs Q x (kKl2 x.N (I, R, th) me t sg)) : X G mX1_doKill n a b Q (kS I R x v) 34 [(1, .ref (x.ad 0 0)), (1, .int (nI t)), (1, .int sg), (1, .ref (x.ad 9 t))] [] := by
  have hnb := hT.ks.nb
  unfold kKl2 at hq
  refine x_aload_n 35 dX1_doKill_34 rfl rfl ?_
  refine x_bipush (v := 7) 37 dX1_doKill_35 rfl rfl ?_
  refine x_iload_n 38 dX1_doKill_37 rfl rfl ?_
  obtain ⟨r_1, hd1⟩ : ∃ r : kO, r = kAccess x.N (I, R, th) me 7 (nI t) 0 0 0 := ⟨_, rfl⟩
  rw [← hd1] at hq
  have hK_1 : KI r_1.2 x.N (mm + 1) := by rw [hd1]; exact hK.access (hoaN (g := 7) (by omega) kOf7)
  have hS_1 : kSx (I, R, th) r_1.2 := (kSx.rfl (s := (I, R, th))).trans (by rw [hd1]; exact sx_access)
  refine x_callV (as := [.int 7, .int (nI t)]) (rest := []) (i := 0) (n' := n - 1) 41 dX1_doKill_38 rfl mv_X1_650 rfl rfl (hT.ks.l0 (by omega)) (xnh rfl) (by omega) (xst (Nat.le_of_ble_eq_true rfl)) (c_X1_reads (g := 7) (oa := nI t) hT hK (hoaN (g := 7) (by omega) kOf7) (by omega) ((kSx.rfl (s := (I, R, th))).2 0 0 19 rfl |>.trans hme) hme16 (by omega) (kOutN hd1 ⟨?_, ?_⟩))
  · skip
    intro hz1 w1 hU1
    change X _ _ _ _ _ _ _ _ _ _
    rw [kU_ok hz1] at hq
    refine x_aload_n 42 dX1_doKill_41 rfl rfl ?_
    refine x_geti 45 dX1_doKill_42 rfl fl_X1_208 (hU1.ks.l9 (by omega)) ?_
    refine x_vi (w := r_1.2.1 9 t 1) rfl ?_
    refine x_iconst (v := 1) 46 dX1_doKill_45 rfl rfl ?_
    refine x_icmp_eq 59 49 dX1_doKill_46 (by decide) rfl (fun c46 => ?_) (fun c46 => ?_)
    · skip
      rw [if_pos c46] at hq
      refine x_iload_n 60 dX1_doKill_59 rfl rfl ?_
      refine x_bipush (v := 9) 62 dX1_doKill_60 rfl rfl ?_
      refine x_icmp_eq 86 65 dX1_doKill_62 (by decide) rfl (fun c62 => ?_) (fun c62 => ?_)
      · skip
        rw [if_pos c62] at hq
        refine x_iload_n 87 dX1_doKill_86 rfl rfl ?_
        refine x_if_ne 100 90 dX1_doKill_87 (by decide) rfl (fun c87 => ?_) (fun c87 => ?_)
        · skip
          rw [nI_inj0 (by omega)] at c87
          rw [if_neg (by omega)] at hq
          refine x_aload_n 101 dX1_doKill_100 rfl rfl ?_
          refine x_bipush (v := 7) 103 dX1_doKill_101 rfl rfl ?_
          refine x_iload_n 104 dX1_doKill_103 rfl rfl ?_
          obtain ⟨r_2, hd2⟩ : ∃ r : kO, r = kAccess x.N r_1.2 me 7 (nI t) 0 0 1 := ⟨_, rfl⟩
          rw [← hd2] at hq
          have hK_2 : KI r_2.2 x.N ((mm + 1) + 1) := by rw [hd2]; exact hK_1.access (hoaN (g := 7) (by omega) kOf7)
          have hS_2 : kSx (I, R, th) r_2.2 := (hS_1).trans (by rw [hd2]; exact sx_access)
          refine x_callV (as := [.int 7, .int (nI t)]) (rest := []) (i := 0) (n' := n - 1) 107 dX1_doKill_104 rfl mv_X1_588 rfl rfl (hU1.ks.l0 (by omega)) (xnh rfl) (by omega) (xst (Nat.le_of_ble_eq_true rfl)) (c_X1_writes (g := 7) (oa := nI t) hU1 hK_1 (hoaN (g := 7) (by omega) kOf7) (by omega) ((hS_1).2 0 0 19 rfl |>.trans hme) hme16 (by omega) (kOutN hd2 ⟨?_, ?_⟩))
          · skip
            intro hz2 w2 hU2
            change X _ _ _ _ _ _ _ _ _ _
            rw [kU_ok hz2] at hq
            unfold kKl3 at hq
            refine x_aload_n 108 dX1_doKill_107 rfl rfl ?_
            refine x_geti 111 dX1_doKill_108 rfl fl_X1_291 (hU2.ks.l0 (by omega)) ?_
            refine x_vi (w := r_2.2.1 0 0 21) rfl ?_
            refine x_bipush (v := 16) 113 dX1_doKill_111 rfl rfl ?_
            refine x_icmp_eq 126 116 dX1_doKill_113 (by decide) rfl (fun c113 => ?_) (fun c113 => ?_)
            · skip
              rw [if_pos c113] at hq
              refine x_aload_n 127 dX1_doKill_126 rfl rfl ?_
              refine x_aload_n 128 dX1_doKill_127 rfl rfl ?_
              obtain ⟨r_3, hd3⟩ : ∃ r : kO, r = kMeetE x.N r_2.2 me t := ⟨_, rfl⟩
              rw [← hd3] at hq
              have hKS_3 := KI.meetE (me := me) (p := t) hK_2
              rw [← hd3] at hKS_3
              obtain ⟨hK_3, hSa_3⟩ := hKS_3
              have hS_3 := (hS_2).trans hSa_3
              refine x_callV (as := [.ref (x.ad 9 t)]) (rest := []) (i := 0) (n' := n - 1) 131 dX1_doKill_128 rfl mv_X1_709 rfl rfl (hU2.ks.l0 (by omega)) (xnh rfl) (by omega) (xst (Nat.le_of_ble_eq_true rfl)) (c_X1_meetEnd (p := t) hU2 hK_2 (by omega) (by omega) ((hS_2).2 0 0 19 rfl |>.trans hme) hme16 (by omega) (kOvN hd3 ⟨fun h99 => ?_, ⟨?_, ?_⟩⟩))
              · skip
                rw [kU_no (by rw [h99]; decide)] at hq
                exact hq.1 h99
              · skip
                intro hz3 w3 hU3
                change X _ _ _ _ _ _ _ _ _ _
                rw [kU_ok hz3] at hq
                refine x_aload_n 132 dX1_doKill_131 rfl rfl ?_
                refine x_callV (as := []) (rest := []) (i := t) (n' := n - 1) 135 dX1_doKill_132 rfl mv_X1_231 rfl rfl (hU3.ks.l9 (by omega)) (xnh rfl) (by omega) (xst (Nat.le_of_ble_eq_true rfl)) (c_X10_hasGroup hU3.ks (by omega) (by omega) ?_)
                change X _ _ _ _ _ _ _ _ _ _
                refine x_vi (w := b2i (pGrp r_3.2.1 t)) rfl ?_
                refine x_if_eq 143 138 dX1_doKill_135 (by decide) rfl (fun c135 => ?_) (fun c135 => ?_)
                · skip
                  have c135 : ¬ (pGrp r_3.2.1 t) := b2i_0.mp c135
                  rw [show kAbt x.N r_3.2 t = r_3.2 by unfold kAbt; rw [cif_f (show ¬ pGrp r_3.2.1 t from c135)]] at hq
                  refine x_aload_n 144 dX1_doKill_143 rfl rfl ?_
                  refine x_aload_n 145 dX1_doKill_144 rfl rfl ?_
                  refine x_sipush (v := 137) 148 dX1_doKill_145 rfl rfl ?_
                  refine x_callV (as := [.ref (x.ad 9 t), .int 137]) (rest := []) (i := 0) (n' := n - 1) 151 dX1_doKill_148 rfl mv_X1_712 rfl rfl (hU3.ks.l0 (by omega)) (xnh rfl) (by omega) (xst (Nat.le_of_ble_eq_true rfl)) (c_X1_end hU3.ks (by omega) (by omega) (kEnd_q ?_))
                  change X _ _ _ _ _ _ _ _ _ _
                  refine k_nmA (v := w3) (A1 := (kEndA r_3.2.1 t 137)) kI_kEndA fun I1 hI1 => ?_
                  refine k_nmC (v := w3) (C1 := (kEndR r_3.2.2.1 t)) kR_kEndR fun R1 hR1 => ?_
                  unfold kEnd at hq
                  refine x_iconst (v := 0) 152 dX1_doKill_151 rfl rfl ?_
                  refine x_ireturn dX1_doKill_152 rfl ?_
                  rw [hI1, hR1]
                  exact hq.ret3 hU3
                · skip
                  have c135 : pGrp r_3.2.1 t := b2i_n0.mp c135
                  have hab : kAbt x.N r_3.2 t = kAbort x.N r_3.2 t := by unfold kAbt; rw [cif_t (show pGrp r_3.2.1 t from c135)]
                  rw [hab] at hq
                  refine x_aload_n 139 dX1_doKill_138 rfl rfl ?_
                  refine x_aload_n 140 dX1_doKill_139 rfl rfl ?_
                  obtain ⟨q_, hqd⟩ : ∃ q : kK, q = kAbort x.N r_3.2 t := ⟨_, rfl⟩
                  rw [← hqd] at hq
                  have hKq : KI q_ x.N (mm + 32) := by rw [hqd]; exact hK_3.abort
                  have hSq : kSx (I, R, th) q_ := (hS_3).trans (by rw [hqd]; exact sx_abort)
                  refine x_callV (as := [.ref (x.ad 9 t)]) (rest := []) (i := 0) (n' := n - 1) 143 dX1_doKill_140 rfl mv_X1_353 rfl rfl (hU3.ks.l0 (by omega)) (xnh rfl) (by omega) (xst (Nat.le_of_ble_eq_true rfl)) (c_X1_abort (p := t) hU3 hK_3 (by omega) (by omega) (kAbN hqd ?_))
                  · skip
                    intro wq hUq
                    change X _ _ _ _ _ _ _ _ _ _
                    refine x_aload_n 144 dX1_doKill_143 rfl rfl ?_
                    refine x_aload_n 145 dX1_doKill_144 rfl rfl ?_
                    refine x_sipush (v := 137) 148 dX1_doKill_145 rfl rfl ?_
                    refine x_callV (as := [.ref (x.ad 9 t), .int 137]) (rest := []) (i := 0) (n' := n - 1) 151 dX1_doKill_148 rfl mv_X1_712 rfl rfl (hUq.ks.l0 (by omega)) (xnh rfl) (by omega) (xst (Nat.le_of_ble_eq_true rfl)) (c_X1_end hUq.ks (by omega) (by omega) (kEnd_q ?_))
                    change X _ _ _ _ _ _ _ _ _ _
                    refine k_nmA (v := wq) (A1 := (kEndA q_.1 t 137)) kI_kEndA fun I1 hI1 => ?_
                    refine k_nmC (v := wq) (C1 := (kEndR q_.2.1 t)) kR_kEndR fun R1 hR1 => ?_
                    unfold kEnd at hq
                    refine x_iconst (v := 0) 152 dX1_doKill_151 rfl rfl ?_
                    refine x_ireturn dX1_doKill_152 rfl ?_
                    rw [hI1, hR1]
                    exact hq.ret3 hUq
              · skip
                intro hz3 w3 hU3
                rw [kU_no hz3] at hq
                exact hq.no hz3 hU3
            · skip
              rw [if_neg c113] at hq
              refine x_aload_n 117 dX1_doKill_116 rfl rfl ?_
              refine x_gets 120 dX1_doKill_117 rfl fl_X1_371 (hU2.ks.l0 (by omega)) ((hS_2).2 0 0 19 rfl |>.trans hme) ?_
              refine x_iload_n 121 dX1_doKill_120 rfl rfl ?_
              obtain ⟨hkw_, hq⟩ := hq.as
              obtain ⟨m_, hm0, hm2⟩ := hkw_
              refine x_callV (as := [.int (nI t)]) (rest := []) (i := me) (n' := n - 1) 124 dX1_doKill_121 rfl mv_X1_724 rfl rfl (hU2.ks.l9 (by omega)) (xnh rfl) (by omega) (xst (Nat.le_of_ble_eq_true rfl)) (c_X10_kill (I := kI r_2.2.1 w2.t) (m := m_) hU2.ks hme16 hm0 hm2 (by omega) ?_)
              change X _ _ _ _ _ _ _ _ _ _
              refine k_nmA (v := w2) (A1 := (kKil r_2.2.1 me (nI t))) kI_kKil fun I1 hI1 => ?_
              refine x_iconst (v := 0) 125 dX1_doKill_124 rfl rfl ?_
              refine x_ireturn dX1_doKill_125 rfl ?_
              rw [hI1]
              exact hq.ret3 hU2
          · skip
            intro hz2 w2 hU2
            rw [kU_no hz2] at hq
            exact hq.no hz2 hU2
        · skip
          rw [nI_inj0 (by omega)] at c87
          rw [if_pos (by omega)] at hq
          refine x_aload_n 91 dX1_doKill_90 rfl rfl ?_
          refine x_getz 94 dX1_doKill_91 rfl fl_X1_53 (hU1.ks.l0 (by omega)) (hU1.ks.z0_10 (by omega)) ?_
          refine x_bipush (v := -5) 96 dX1_doKill_94 rfl rfl ?_
          refine x_callV (as := [.int (-5)]) (rest := []) (i := 0) (n' := n - 1) 99 dX1_doKill_96 rfl mv_X1_364 rfl rfl (hU1.ks.l3 (by omega)) (xnh rfl) (by omega) (xst (Nat.le_of_ble_eq_true rfl)) (c_X4_by hU1.ks (by omega) ?_)
          change X _ _ _ _ _ _ _ _ _ _
          refine k_nmA (v := w1) (A1 := (xu r_1.2.1 3 0 0 ((-5)))) (by (repeat (first | rw [kI_xu] | rw [kI_xur] | rw [kI_xfil])) <;> rfl) fun I1 hI1 => ?_
          refine x_athrow dX1_doKill_99 (xnh rfl) ?_
          rw [hI1]
          exact hq.thr (by decide) hU1
      · skip
        rw [if_neg c62] at hq
        refine x_aload_n 66 dX1_doKill_65 rfl rfl ?_
        refine x_bipush (v := 8) 68 dX1_doKill_66 rfl rfl ?_
        refine x_iload_n 69 dX1_doKill_68 rfl rfl ?_
        obtain ⟨r_2, hd2⟩ : ∃ r : kO, r = kAccess x.N r_1.2 me 8 (nI t) 0 0 1 := ⟨_, rfl⟩
        rw [← hd2] at hq
        have hK_2 : KI r_2.2 x.N ((mm + 1) + 1) := by rw [hd2]; exact hK_1.access (hoaN (g := 8) (by omega) (kOf8 (by omega)))
        have hS_2 : kSx (I, R, th) r_2.2 := (hS_1).trans (by rw [hd2]; exact sx_access)
        refine x_callV (as := [.int 8, .int (nI t)]) (rest := []) (i := 0) (n' := n - 1) 72 dX1_doKill_69 rfl mv_X1_588 rfl rfl (hU1.ks.l0 (by omega)) (xnh rfl) (by omega) (xst (Nat.le_of_ble_eq_true rfl)) (c_X1_writes (g := 8) (oa := nI t) hU1 hK_1 (hoaN (g := 8) (by omega) (kOf8 (by omega))) (by omega) ((hS_1).2 0 0 19 rfl |>.trans hme) hme16 (by omega) (kOutN hd2 ⟨?_, ?_⟩))
        · skip
          intro hz2 w2 hU2
          change X _ _ _ _ _ _ _ _ _ _
          rw [kU_ok hz2] at hq
          refine x_aload_n 73 dX1_doKill_72 rfl rfl ?_
          refine x_dup 74 dX1_doKill_73 rfl rfl ?_
          refine x_geti 77 dX1_doKill_74 rfl fl_X1_319 (hU2.ks.l9 (by omega)) ?_
          refine x_vi (w := r_2.2.1 9 t 6) rfl ?_
          refine x_iconst (v := 1) 78 dX1_doKill_77 rfl rfl ?_
          refine x_iload_n 79 dX1_doKill_78 rfl rfl ?_
          refine x_ishl 80 dX1_doKill_79 rfl ?_
          refine x_ior 81 dX1_doKill_80 rfl ?_
          refine x_puti 84 dX1_doKill_81 rfl fl_X1_319 rfl rfl (hU2.ks.l9 (by omega)) ?_
          refine k_nmA (v := w2) (kI_xu (c := 9) rfl) fun I1 hI1 => ?_
          refine x_iconst (v := 0) 85 dX1_doKill_84 rfl rfl ?_
          refine x_ireturn dX1_doKill_85 rfl ?_
          rw [hI1]
          exact hq.ret3 hU2
        · skip
          intro hz2 w2 hU2
          rw [kU_no hz2] at hq
          exact hq.no hz2 hU2
    · skip
      rw [if_neg c46] at hq
      refine x_aload_n 50 dX1_doKill_49 rfl rfl ?_
      refine x_getz 53 dX1_doKill_50 rfl fl_X1_53 (hU1.ks.l0 (by omega)) (hU1.ks.z0_10 (by omega)) ?_
      refine x_bipush (v := -2) 55 dX1_doKill_53 rfl rfl ?_
      refine x_callV (as := [.int (-2)]) (rest := []) (i := 0) (n' := n - 1) 58 dX1_doKill_55 rfl mv_X1_364 rfl rfl (hU1.ks.l3 (by omega)) (xnh rfl) (by omega) (xst (Nat.le_of_ble_eq_true rfl)) (c_X4_by hU1.ks (by omega) ?_)
      change X _ _ _ _ _ _ _ _ _ _
      refine k_nmA (v := w1) (A1 := (xu r_1.2.1 3 0 0 ((-2)))) (by (repeat (first | rw [kI_xu] | rw [kI_xur] | rw [kI_xfil])) <;> rfl) fun I1 hI1 => ?_
      refine x_athrow dX1_doKill_58 (xnh rfl) ?_
      rw [hI1]
      exact hq.thr (by decide) hU1
  · skip
    intro hz1 w1 hU1
    rw [kU_no hz1] at hq
    exact hq.no hz1 hU1
theorem KI.u0 {s : kK} {N m k : Nat} {v : Int32} (h : KI s N m) (hk : wfB N 0 k = none) : KI (xu s.1 0 0 k v, s.2.1, s.2.2) N m :=
  ⟨h.wf.u hk, h.rf, h.ok, ⟨fun i hi => by show xu s.1 0 0 k v 6 i 0 = nI i; rw [xu_c (by decide)]; exact h.nm.1 i hi, fun p hp => by show xu s.1 0 0 k v 9 p 0 = nI p; rw [xu_c (by decide)]; exact h.nm.2 p hp⟩, h.ln⟩
set_option maxHeartbeats 400000 in
set_option maxRecDepth 100000 in
theorem c_X1_doKill {G : xG} {n : Nat} {Q : Outcome → xS → Prop} {x : kX} {I : xI} {R : xR} {v : kV} {th : List xTh} {mm : Nat} (hT : KT x v th) (hK : KI (I, R, th) x.N mm) {t : Nat} {sg : Int32} (ht : t < 16) (hmm : mm + 200 < 16384) {me : Nat} (hme : R 0 0 19 = some me) (hme16 : me < 16) (hn : 14 ≤ n) (hq : kOs Q x (kDoKill x.N (I, R, th) me t sg)) : xCall G mX1_doKill n [.ref (x.ad 0 0), .int (nI t), .int sg] (kS I R x v) Q := by
  refine x_met (L0 := [(1, .ref (x.ad 0 0)), (1, .int (nI t)), (1, .int sg), xo]) (by decide +kernel) rfl ⟨Nat.le_of_ble_eq_true rfl, rfl⟩ ?_
  have hnb := hT.ks.nb
  unfold kDoKill at hq
  refine x_aload_n 1 dX1_doKill_0 rfl rfl ?_
  refine x_getz 4 dX1_doKill_1 rfl fl_X1_39 (hT.ks.l0 (by omega)) (hT.ks.z0_8 (by omega)) ?_
  refine x_iload_n 5 dX1_doKill_4 rfl rfl ?_
  refine x_aldz 6 dX1_doKill_5 rfl ar_26 rfl (hT.ks.l26 (by omega)) (xb (hT.ks.n26 (by omega)) (by omega) (by omega)) (hT.ks.z26 (by omega)) ?_
  refine x_astore_n 7 [(1, .ref (x.ad 0 0)), (1, .int (nI t)), (1, .int sg), (1, .ref (x.ad 9 t))] dX1_doKill_6 rfl (by decide) rfl ?_
  refine x_aload_n 8 dX1_doKill_7 rfl rfl ?_
  refine x_geti 11 dX1_doKill_8 rfl fl_X1_291 (hT.ks.l0 (by omega)) ?_
  refine x_vi (w := I 0 0 21) rfl ?_
  refine x_bipush (v := 16) 13 dX1_doKill_11 rfl rfl ?_
  refine x_icmp_ne 34 16 dX1_doKill_13 (by decide) rfl (fun c13 => ?_) (fun c13 => ?_)
  · skip
    rw [cif_f (show ¬ ((I, R, th).1 0 0 21 = 16 ∧ sg = 9 ∧ pGrp (I, R, th).1 t) from fun h => c13 h.1)] at hq
    exact s34_kill hT hK ht (by omega) hme hme16 (by omega) hq
  · skip
    refine x_iload_n 17 dX1_doKill_16 rfl rfl ?_
    refine x_bipush (v := 9) 19 dX1_doKill_17 rfl rfl ?_
    refine x_icmp_ne 34 22 dX1_doKill_19 (by decide) rfl (fun c19 => ?_) (fun c19 => ?_)
    · skip
      rw [cif_f (show ¬ ((I, R, th).1 0 0 21 = 16 ∧ sg = 9 ∧ pGrp (I, R, th).1 t) from fun h => c19 h.2.1)] at hq
      exact s34_kill hT hK ht (by omega) hme hme16 (by omega) hq
    · skip
      refine x_aload_n 23 dX1_doKill_22 rfl rfl ?_
      refine x_callV (as := []) (rest := []) (i := t) (n' := n - 1) 26 dX1_doKill_23 rfl mv_X1_231 rfl rfl (hT.ks.l9 (by omega)) (xnh rfl) (by omega) (xst (Nat.le_of_ble_eq_true rfl)) (c_X10_hasGroup hT.ks (by omega) (by omega) ?_)
      change X _ _ _ _ _ _ _ _ _ _
      refine x_vi (w := b2i (pGrp I t)) rfl ?_
      refine x_if_eq 34 29 dX1_doKill_26 (by decide) rfl (fun c26 => ?_) (fun c26 => ?_)
      · skip
        have c26 : ¬ (pGrp I t) := b2i_0.mp c26
        rw [cif_f (show ¬ ((I, R, th).1 0 0 21 = 16 ∧ sg = 9 ∧ pGrp (I, R, th).1 t) from fun h => c26 h.2.2)] at hq
        exact s34_kill hT hK ht (by omega) hme hme16 (by omega) hq
      · skip
        have c26 : pGrp I t := b2i_n0.mp c26
        refine x_aload_n 30 dX1_doKill_29 rfl rfl ?_
        refine x_iload_n 31 dX1_doKill_30 rfl rfl ?_
        refine x_puti 34 dX1_doKill_31 rfl fl_X1_67 rfl rfl (hT.ks.l0 (by omega)) ?_
        refine k_nmA (v := v) (kI_xu (c := 0) rfl) fun I1 hI1 => ?_
        rw [cif_t (show (I, R, th).1 0 0 21 = 16 ∧ sg = 9 ∧ pGrp (I, R, th).1 t from ⟨c13, c19, c26⟩)] at hq
        rw [hI1]
        exact s34_kill hT (hK.u0 rfl) ht (by omega) hme hme16 (by omega) hq
def kAwB (s : kK) (me c : Nat) : Prop := (s.1 9 me 17 >>> (nI c &&& 31)) &&& 1 = 1
def kAwE (s : kK) (me c : Nat) : kQ := if s.1 0 0 21 = 16 then kRt (pClrI s.1 c, pClrR s.2.1 c, s.2.2) (nI (256 * c) + s.1 9 c 3) else kRt (xu s.1 9 me 17 (s.1 9 me 17 ||| ((1 : Int32) <<< (nI c &&& 31))), s.2.1, s.2.2) (nI (256 * c) + s.1 9 c 3)
noncomputable def kAwL (N me : Nat) : Nat → kK → Nat → Bool → kQ
  | 0, s, _, b => kRf s (if b = true then -7 else -2)
  | n + 1, s, c, b => cif (s.1 9 c 1 = 0 ∨ ¬ s.1 9 c 2 = nI me ∨ kAwB s me c) (kAwL N me n s (c + 1) b) (if s.1 9 c 1 = 3 then kAwL N me n s (c + 1) true else
      kU (kAccess N s me 7 (nI c) 0 0 0) fun s => if s.1 9 c 1 = 2 then kU (kAccess N s me 7 (nI c) 0 0 1) fun s => kAwE s me c else kAwL N me n s (c + 1) true)
noncomputable def kDoAwait (N : Nat) (s : kK) (me : Nat) : kQ := kU (kAccess N s me 7 (nI me) 0 0 0) fun s => kAwL N me 16 s 0 false
theorem dX1_doAwait_0 : decode cX1_doAwait 0 = .ok (.iconst 0, 1) := by decide +kernel
theorem dX1_doAwait_1 : decode cX1_doAwait 1 = .ok (.istore_n 1, 1) := by decide +kernel
theorem dX1_doAwait_2 : decode cX1_doAwait 2 = .ok (.aload_n 0, 1) := by decide +kernel
theorem dX1_doAwait_3 : decode cX1_doAwait 3 = .ok (.bipush 7, 2) := by decide +kernel
theorem dX1_doAwait_5 : decode cX1_doAwait 5 = .ok (.aload_n 0, 1) := by decide +kernel
theorem dX1_doAwait_6 : decode cX1_doAwait 6 = .ok (.getfield 371, 3) := by decide +kernel
theorem dX1_doAwait_9 : decode cX1_doAwait 9 = .ok (.getfield 346, 3) := by decide +kernel
theorem dX1_doAwait_12 : decode cX1_doAwait 12 = .ok (.invokevirtual 650, 3) := by decide +kernel
theorem dX1_doAwait_15 : decode cX1_doAwait 15 = .ok (.aload_n 0, 1) := by decide +kernel
theorem dX1_doAwait_16 : decode cX1_doAwait 16 = .ok (.getfield 39, 3) := by decide +kernel
theorem dX1_doAwait_19 : decode cX1_doAwait 19 = .ok (.astore_n 2, 1) := by decide +kernel
theorem dX1_doAwait_20 : decode cX1_doAwait 20 = .ok (.aload_n 2, 1) := by decide +kernel
theorem dX1_doAwait_21 : decode cX1_doAwait 21 = .ok (.arraylength, 1) := by decide +kernel
theorem dX1_doAwait_22 : decode cX1_doAwait 22 = .ok (.istore_n 3, 1) := by decide +kernel
theorem dX1_doAwait_23 : decode cX1_doAwait 23 = .ok (.iconst 0, 1) := by decide +kernel
theorem dX1_doAwait_24 : decode cX1_doAwait 24 = .ok (.istore 4, 2) := by decide +kernel
theorem dX1_doAwait_26 : decode cX1_doAwait 26 = .ok (.iload 4, 2) := by decide +kernel
theorem dX1_doAwait_28 : decode cX1_doAwait 28 = .ok (.iload_n 3, 1) := by decide +kernel
theorem dX1_doAwait_29 : decode cX1_doAwait 29 = .ok (.if_icmp .ge 164, 3) := by decide +kernel
theorem dX1_doAwait_32 : decode cX1_doAwait 32 = .ok (.aload_n 2, 1) := by decide +kernel
theorem dX1_doAwait_33 : decode cX1_doAwait 33 = .ok (.iload 4, 2) := by decide +kernel
theorem dX1_doAwait_35 : decode cX1_doAwait 35 = .ok (.aaload, 1) := by decide +kernel
theorem dX1_doAwait_36 : decode cX1_doAwait 36 = .ok (.astore 5, 2) := by decide +kernel
theorem dX1_doAwait_38 : decode cX1_doAwait 38 = .ok (.aload 5, 2) := by decide +kernel
theorem dX1_doAwait_40 : decode cX1_doAwait 40 = .ok (.getfield 208, 3) := by decide +kernel
theorem dX1_doAwait_43 : decode cX1_doAwait 43 = .ok (.ifCond .eq 144, 3) := by decide +kernel
theorem dX1_doAwait_46 : decode cX1_doAwait 46 = .ok (.aload 5, 2) := by decide +kernel
theorem dX1_doAwait_48 : decode cX1_doAwait 48 = .ok (.getfield 703, 3) := by decide +kernel
theorem dX1_doAwait_51 : decode cX1_doAwait 51 = .ok (.aload_n 0, 1) := by decide +kernel
theorem dX1_doAwait_52 : decode cX1_doAwait 52 = .ok (.getfield 371, 3) := by decide +kernel
theorem dX1_doAwait_55 : decode cX1_doAwait 55 = .ok (.getfield 346, 3) := by decide +kernel
theorem dX1_doAwait_58 : decode cX1_doAwait 58 = .ok (.if_icmp .ne 129, 3) := by decide +kernel
theorem dX1_doAwait_61 : decode cX1_doAwait 61 = .ok (.aload_n 0, 1) := by decide +kernel
theorem dX1_doAwait_62 : decode cX1_doAwait 62 = .ok (.getfield 371, 3) := by decide +kernel
theorem dX1_doAwait_65 : decode cX1_doAwait 65 = .ok (.getfield 721, 3) := by decide +kernel
theorem dX1_doAwait_68 : decode cX1_doAwait 68 = .ok (.aload 5, 2) := by decide +kernel
theorem dX1_doAwait_70 : decode cX1_doAwait 70 = .ok (.getfield 346, 3) := by decide +kernel
theorem dX1_doAwait_73 : decode cX1_doAwait 73 = .ok (.ishr, 1) := by decide +kernel
theorem dX1_doAwait_74 : decode cX1_doAwait 74 = .ok (.iconst 1, 1) := by decide +kernel
theorem dX1_doAwait_75 : decode cX1_doAwait 75 = .ok (.iand, 1) := by decide +kernel
theorem dX1_doAwait_76 : decode cX1_doAwait 76 = .ok (.iconst 1, 1) := by decide +kernel
theorem dX1_doAwait_77 : decode cX1_doAwait 77 = .ok (.if_icmp .ne 6, 3) := by decide +kernel
theorem dX1_doAwait_80 : decode cX1_doAwait 80 = .ok (.goto 107, 3) := by decide +kernel
theorem dX1_doAwait_83 : decode cX1_doAwait 83 = .ok (.iconst 1, 1) := by decide +kernel
theorem dX1_doAwait_84 : decode cX1_doAwait 84 = .ok (.istore_n 1, 1) := by decide +kernel
theorem dX1_doAwait_85 : decode cX1_doAwait 85 = .ok (.aload 5, 2) := by decide +kernel
theorem dX1_doAwait_87 : decode cX1_doAwait 87 = .ok (.getfield 208, 3) := by decide +kernel
theorem dX1_doAwait_90 : decode cX1_doAwait 90 = .ok (.iconst 3, 1) := by decide +kernel
theorem dX1_doAwait_91 : decode cX1_doAwait 91 = .ok (.if_icmp .ne 6, 3) := by decide +kernel
theorem dX1_doAwait_94 : decode cX1_doAwait 94 = .ok (.goto 93, 3) := by decide +kernel
theorem dX1_doAwait_97 : decode cX1_doAwait 97 = .ok (.aload_n 0, 1) := by decide +kernel
theorem dX1_doAwait_98 : decode cX1_doAwait 98 = .ok (.bipush 7, 2) := by decide +kernel
theorem dX1_doAwait_100 : decode cX1_doAwait 100 = .ok (.aload 5, 2) := by decide +kernel
theorem dX1_doAwait_102 : decode cX1_doAwait 102 = .ok (.getfield 346, 3) := by decide +kernel
theorem dX1_doAwait_105 : decode cX1_doAwait 105 = .ok (.invokevirtual 650, 3) := by decide +kernel
theorem dX1_doAwait_108 : decode cX1_doAwait 108 = .ok (.aload 5, 2) := by decide +kernel
theorem dX1_doAwait_110 : decode cX1_doAwait 110 = .ok (.getfield 208, 3) := by decide +kernel
theorem dX1_doAwait_113 : decode cX1_doAwait 113 = .ok (.iconst 2, 1) := by decide +kernel
theorem dX1_doAwait_114 : decode cX1_doAwait 114 = .ok (.if_icmp .eq 6, 3) := by decide +kernel
theorem dX1_doAwait_117 : decode cX1_doAwait 117 = .ok (.goto 70, 3) := by decide +kernel
theorem dX1_doAwait_120 : decode cX1_doAwait 120 = .ok (.aload_n 0, 1) := by decide +kernel
theorem dX1_doAwait_121 : decode cX1_doAwait 121 = .ok (.bipush 7, 2) := by decide +kernel
theorem dX1_doAwait_123 : decode cX1_doAwait 123 = .ok (.aload 5, 2) := by decide +kernel
theorem dX1_doAwait_125 : decode cX1_doAwait 125 = .ok (.getfield 346, 3) := by decide +kernel
theorem dX1_doAwait_128 : decode cX1_doAwait 128 = .ok (.invokevirtual 588, 3) := by decide +kernel
theorem dX1_doAwait_131 : decode cX1_doAwait 131 = .ok (.sipush 256, 3) := by decide +kernel
theorem dX1_doAwait_134 : decode cX1_doAwait 134 = .ok (.aload 5, 2) := by decide +kernel
theorem dX1_doAwait_136 : decode cX1_doAwait 136 = .ok (.getfield 346, 3) := by decide +kernel
theorem dX1_doAwait_139 : decode cX1_doAwait 139 = .ok (.imul, 1) := by decide +kernel
theorem dX1_doAwait_140 : decode cX1_doAwait 140 = .ok (.aload 5, 2) := by decide +kernel
theorem dX1_doAwait_142 : decode cX1_doAwait 142 = .ok (.getfield 718, 3) := by decide +kernel
theorem dX1_doAwait_145 : decode cX1_doAwait 145 = .ok (.iadd, 1) := by decide +kernel
theorem dX1_doAwait_146 : decode cX1_doAwait 146 = .ok (.istore 6, 2) := by decide +kernel
theorem dX1_doAwait_148 : decode cX1_doAwait 148 = .ok (.aload_n 0, 1) := by decide +kernel
theorem dX1_doAwait_149 : decode cX1_doAwait 149 = .ok (.getfield 291, 3) := by decide +kernel
theorem dX1_doAwait_152 : decode cX1_doAwait 152 = .ok (.bipush 16, 2) := by decide +kernel
theorem dX1_doAwait_154 : decode cX1_doAwait 154 = .ok (.if_icmp .ne 11, 3) := by decide +kernel
theorem dX1_doAwait_157 : decode cX1_doAwait 157 = .ok (.aload 5, 2) := by decide +kernel
theorem dX1_doAwait_159 : decode cX1_doAwait 159 = .ok (.invokevirtual 201, 3) := by decide +kernel
theorem dX1_doAwait_162 : decode cX1_doAwait 162 = .ok (.goto 22, 3) := by decide +kernel
theorem dX1_doAwait_165 : decode cX1_doAwait 165 = .ok (.aload_n 0, 1) := by decide +kernel
theorem dX1_doAwait_166 : decode cX1_doAwait 166 = .ok (.getfield 371, 3) := by decide +kernel
theorem dX1_doAwait_169 : decode cX1_doAwait 169 = .ok (.dup, 1) := by decide +kernel
theorem dX1_doAwait_170 : decode cX1_doAwait 170 = .ok (.getfield 721, 3) := by decide +kernel
theorem dX1_doAwait_173 : decode cX1_doAwait 173 = .ok (.iconst 1, 1) := by decide +kernel
theorem dX1_doAwait_174 : decode cX1_doAwait 174 = .ok (.aload 5, 2) := by decide +kernel
theorem dX1_doAwait_176 : decode cX1_doAwait 176 = .ok (.getfield 346, 3) := by decide +kernel
theorem dX1_doAwait_179 : decode cX1_doAwait 179 = .ok (.ishl, 1) := by decide +kernel
theorem dX1_doAwait_180 : decode cX1_doAwait 180 = .ok (.ior, 1) := by decide +kernel
theorem dX1_doAwait_181 : decode cX1_doAwait 181 = .ok (.putfield 721, 3) := by decide +kernel
theorem dX1_doAwait_184 : decode cX1_doAwait 184 = .ok (.iload 6, 2) := by decide +kernel
theorem dX1_doAwait_186 : decode cX1_doAwait 186 = .ok (.ireturn, 1) := by decide +kernel
theorem dX1_doAwait_187 : decode cX1_doAwait 187 = .ok (.iinc 4 1, 3) := by decide +kernel
theorem dX1_doAwait_190 : decode cX1_doAwait 190 = .ok (.goto (-164), 3) := by decide +kernel
theorem dX1_doAwait_193 : decode cX1_doAwait 193 = .ok (.aload_n 0, 1) := by decide +kernel
theorem dX1_doAwait_194 : decode cX1_doAwait 194 = .ok (.getfield 53, 3) := by decide +kernel
theorem dX1_doAwait_197 : decode cX1_doAwait 197 = .ok (.iload_n 1, 1) := by decide +kernel
theorem dX1_doAwait_198 : decode cX1_doAwait 198 = .ok (.ifCond .eq 8, 3) := by decide +kernel
theorem dX1_doAwait_201 : decode cX1_doAwait 201 = .ok (.bipush (-7), 2) := by decide +kernel
theorem dX1_doAwait_203 : decode cX1_doAwait 203 = .ok (.goto 5, 3) := by decide +kernel
theorem dX1_doAwait_206 : decode cX1_doAwait 206 = .ok (.bipush (-2), 2) := by decide +kernel
theorem dX1_doAwait_208 : decode cX1_doAwait 208 = .ok (.invokevirtual 364, 3) := by decide +kernel
theorem dX1_doAwait_211 : decode cX1_doAwait 211 = .ok (.athrow, 1) := by decide +kernel
set_option maxHeartbeats 4000000 in
set_option maxRecDepth 100000 in
theorem l_X1_doAwait {G : xG} {n a b : Nat} {Q : Outcome → xS → Prop} {x : kX} {me : Nat} (hme16 : me < 16) (hn : 9 ≤ n) : ∀ (u : Nat) {I : xI} {R : xR} {v : kV} {th : List xTh} {mm c : Nat} {bb : Bool}, c + u = 16 → KT x v th → KI (I, R, th) x.N mm → mm + 2 * u < 16384 → R 0 0 19 = some me → kOs Q x (kAwL x.N me u (I, R, th) c bb) → X G mX1_doAwait n a b Q (kS I R x v) 26 [(1, .ref (x.ad 0 0)), (1, .int (oIf bb)), (1, .ref (x.ad 26 0)), (1, .int (nI 16)), (1, .int (nI c)), xo, xo] [] := by
  intro u
  induction u with
  | zero =>
    intro I R v th mm c bb hc hT hK hmm hme hq
    have hnb := hT.ks.nb
    unfold kAwL at hq
    refine x_iload 28 dX1_doAwait_26 rfl rfl ?_
    refine x_iload_n 29 dX1_doAwait_28 rfl rfl ?_
    refine x_icmp_ge 193 32 dX1_doAwait_29 (by decide) rfl (fun c29 => ?_) (fun c29 => ?_)
    · skip
      have c29 : 16 ≤ c := (nI_leI (a := 16) (b := c) (by omega) (by omega)).mp c29
      refine x_aload_n 194 dX1_doAwait_193 rfl rfl ?_
      refine x_getz 197 dX1_doAwait_194 rfl fl_X1_53 (hT.ks.l0 (by omega)) (hT.ks.z0_10 (by omega)) ?_
      refine x_iload_n 198 dX1_doAwait_197 rfl rfl ?_
      refine x_if_eq 206 201 dX1_doAwait_198 (by decide) rfl (fun c198 => ?_) (fun c198 => ?_)
      · skip
        rw [if_neg (fun h => by rw [h] at c198; exact absurd c198 (by decide))] at hq
        refine x_bipush (v := -2) 208 dX1_doAwait_206 rfl rfl ?_
        refine x_callV (as := [.int (-2)]) (rest := []) (i := 0) (n' := n - 1) 211 dX1_doAwait_208 rfl mv_X1_364 rfl rfl (hT.ks.l3 (by omega)) (xnh rfl) (by omega) (xst (Nat.le_of_ble_eq_true rfl)) (c_X4_by hT.ks (by omega) ?_)
        change X _ _ _ _ _ _ _ _ _ _
        refine k_nmA (v := v) (A1 := (xu I 3 0 0 ((-2)))) (by (repeat (first | rw [kI_xu] | rw [kI_xur] | rw [kI_xfil])) <;> rfl) fun I1 hI1 => ?_
        refine x_athrow dX1_doAwait_211 (xnh rfl) ?_
        rw [hI1]
        exact hq.thr (by decide) hT
      · skip
        rw [if_pos (by cases bb; exact absurd rfl c198; rfl)] at hq
        refine x_bipush (v := -7) 203 dX1_doAwait_201 rfl rfl ?_
        refine x_goto 208 dX1_doAwait_203 (by decide) ?_
        refine x_callV (as := [.int (-7)]) (rest := []) (i := 0) (n' := n - 1) 211 dX1_doAwait_208 rfl mv_X1_364 rfl rfl (hT.ks.l3 (by omega)) (xnh rfl) (by omega) (xst (Nat.le_of_ble_eq_true rfl)) (c_X4_by hT.ks (by omega) ?_)
        change X _ _ _ _ _ _ _ _ _ _
        refine k_nmA (v := v) (A1 := (xu I 3 0 0 ((-7)))) (by (repeat (first | rw [kI_xu] | rw [kI_xur] | rw [kI_xfil])) <;> rfl) fun I1 hI1 => ?_
        refine x_athrow dX1_doAwait_211 (xnh rfl) ?_
        rw [hI1]
        exact hq.thr (by decide) hT
    · skip
      have c29 : ¬ (16 ≤ c) := fun h => c29 ((nI_leI (a := 16) (b := c) (by omega) (by omega)).mpr h)
      exact absurd c29 (by omega)
  | succ u ih =>
    intro I R v th mm c bb hc hT hK hmm hme hq
    have hnb := hT.ks.nb
    unfold kAwL at hq
    refine x_iload 28 dX1_doAwait_26 rfl rfl ?_
    refine x_iload_n 29 dX1_doAwait_28 rfl rfl ?_
    refine x_icmp_ge 193 32 dX1_doAwait_29 (by decide) rfl (fun c29 => ?_) (fun c29 => ?_)
    · skip
      have c29 : 16 ≤ c := (nI_leI (a := 16) (b := c) (by omega) (by omega)).mp c29
      exact absurd c29 (by omega)
    · skip
      have c29 : ¬ (16 ≤ c) := fun h => c29 ((nI_leI (a := 16) (b := c) (by omega) (by omega)).mpr h)
      refine x_aload_n 33 dX1_doAwait_32 rfl rfl ?_
      refine x_iload 35 dX1_doAwait_33 rfl rfl ?_
      refine x_aldz 36 dX1_doAwait_35 rfl ar_26 rfl (hT.ks.l26 (by omega)) (xb (hT.ks.n26 (by omega)) (by omega) (by omega)) (hT.ks.z26 (by omega)) ?_
      refine x_astore 38 [(1, .ref (x.ad 0 0)), (1, .int (oIf bb)), (1, .ref (x.ad 26 0)), (1, .int (nI 16)), (1, .int (nI c)), (1, .ref (x.ad 9 c)), xo] dX1_doAwait_36 rfl (by decide) rfl ?_
      refine x_aload 40 dX1_doAwait_38 rfl rfl ?_
      refine x_geti 43 dX1_doAwait_40 rfl fl_X1_208 (hT.ks.l9 (by omega)) ?_
      refine x_vi (w := I 9 c 1) rfl ?_
      refine x_if_eq 187 46 dX1_doAwait_43 (by decide) rfl (fun c43 => ?_) (fun c43 => ?_)
      · skip
        refine x_iinc 190 [(1, .ref (x.ad 0 0)), (1, .int (oIf bb)), (1, .ref (x.ad 26 0)), (1, .int (nI 16)), (1, .int (nI (c + 1))), (1, .ref (x.ad 9 c)), xo] dX1_doAwait_187 rfl (by decide) rfl (xi_1 c) rfl ?_
        refine x_goto 26 dX1_doAwait_190 (by decide) ?_
        refine x_fgt [(1, .ref (x.ad 0 0)), (1, .int (oIf bb)), (1, .ref (x.ad 26 0)), (1, .int (nI 16)), (1, .int (nI (c + 1))), xo, xo] ⟨Or.inr rfl, Or.inr rfl, Or.inr rfl, Or.inr rfl, Or.inr rfl, Or.inl rfl, Or.inl rfl, trivial⟩ ?_
        rw [cif_t (show (I, R, th).1 9 c 1 = 0 ∨ ¬ (I, R, th).1 9 c 2 = nI me ∨ kAwB (I, R, th) me c from Or.inl c43)] at hq
        exact ih (bb := bb) (by omega) hT hK (by omega) hme hq
      · skip
        refine x_aload 48 dX1_doAwait_46 rfl rfl ?_
        refine x_geti 51 dX1_doAwait_48 rfl fl_X1_703 (hT.ks.l9 (by omega)) ?_
        refine x_vi (w := I 9 c 2) rfl ?_
        refine x_aload_n 52 dX1_doAwait_51 rfl rfl ?_
        refine x_gets 55 dX1_doAwait_52 rfl fl_X1_371 (hT.ks.l0 (by omega)) ((kSx.rfl (s := (I, R, th))).2 0 0 19 rfl |>.trans hme) ?_
        refine x_geti 58 dX1_doAwait_55 rfl fl_X1_346 (hT.ks.l9 (by omega)) ?_
        refine x_vi (w := I 9 me 0) rfl ?_
        refine x_vi (w := nI me) (hK.nm.2 me hme16) ?_
        refine x_icmp_ne 187 61 dX1_doAwait_58 (by decide) rfl (fun c58 => ?_) (fun c58 => ?_)
        · skip
          refine x_iinc 190 [(1, .ref (x.ad 0 0)), (1, .int (oIf bb)), (1, .ref (x.ad 26 0)), (1, .int (nI 16)), (1, .int (nI (c + 1))), (1, .ref (x.ad 9 c)), xo] dX1_doAwait_187 rfl (by decide) rfl (xi_1 c) rfl ?_
          refine x_goto 26 dX1_doAwait_190 (by decide) ?_
          refine x_fgt [(1, .ref (x.ad 0 0)), (1, .int (oIf bb)), (1, .ref (x.ad 26 0)), (1, .int (nI 16)), (1, .int (nI (c + 1))), xo, xo] ⟨Or.inr rfl, Or.inr rfl, Or.inr rfl, Or.inr rfl, Or.inr rfl, Or.inl rfl, Or.inl rfl, trivial⟩ ?_
          rw [cif_t (show (I, R, th).1 9 c 1 = 0 ∨ ¬ (I, R, th).1 9 c 2 = nI me ∨ kAwB (I, R, th) me c from Or.inr (Or.inl c58))] at hq
          exact ih (bb := bb) (by omega) hT hK (by omega) hme hq
        · skip
          refine x_aload_n 62 dX1_doAwait_61 rfl rfl ?_
          refine x_gets 65 dX1_doAwait_62 rfl fl_X1_371 (hT.ks.l0 (by omega)) ((kSx.rfl (s := (I, R, th))).2 0 0 19 rfl |>.trans hme) ?_
          refine x_geti 68 dX1_doAwait_65 rfl fl_X1_721 (hT.ks.l9 (by omega)) ?_
          refine x_vi (w := I 9 me 17) rfl ?_
          refine x_aload 70 dX1_doAwait_68 rfl rfl ?_
          refine x_geti 73 dX1_doAwait_70 rfl fl_X1_346 (hT.ks.l9 (by omega)) ?_
          refine x_vi (w := I 9 c 0) rfl ?_
          refine x_vi (w := nI c) (hK.nm.2 c (by omega)) ?_
          refine x_ishr 74 dX1_doAwait_73 rfl ?_
          refine x_iconst (v := 1) 75 dX1_doAwait_74 rfl rfl ?_
          refine x_iand 76 dX1_doAwait_75 rfl ?_
          refine x_iconst (v := 1) 77 dX1_doAwait_76 rfl rfl ?_
          refine x_icmp_ne 83 80 dX1_doAwait_77 (by decide) rfl (fun c77 => ?_) (fun c77 => ?_)
          · skip
            rw [cif_f (by rintro (h | h | h); exact c43 h; exact h c58; exact c77 h)] at hq
            refine x_iconst (v := 1) 84 dX1_doAwait_83 rfl rfl ?_
            refine x_istore_n 85 [(1, .ref (x.ad 0 0)), (1, .int 1), (1, .ref (x.ad 26 0)), (1, .int (nI 16)), (1, .int (nI c)), (1, .ref (x.ad 9 c)), xo] dX1_doAwait_84 rfl (by decide) rfl ?_
            refine x_aload 87 dX1_doAwait_85 rfl rfl ?_
            refine x_geti 90 dX1_doAwait_87 rfl fl_X1_208 (hT.ks.l9 (by omega)) ?_
            refine x_vi (w := I 9 c 1) rfl ?_
            refine x_iconst (v := 3) 91 dX1_doAwait_90 rfl rfl ?_
            refine x_icmp_ne 97 94 dX1_doAwait_91 (by decide) rfl (fun c91 => ?_) (fun c91 => ?_)
            · skip
              rw [if_neg c91] at hq
              refine x_aload_n 98 dX1_doAwait_97 rfl rfl ?_
              refine x_bipush (v := 7) 100 dX1_doAwait_98 rfl rfl ?_
              refine x_aload 102 dX1_doAwait_100 rfl rfl ?_
              refine x_geti 105 dX1_doAwait_102 rfl fl_X1_346 (hT.ks.l9 (by omega)) ?_
              refine x_vi (w := I 9 c 0) rfl ?_
              refine x_vi (w := nI c) (hK.nm.2 c (by omega)) ?_
              obtain ⟨r_1, hd1⟩ : ∃ r : kO, r = kAccess x.N (I, R, th) me 7 (nI c) 0 0 0 := ⟨_, rfl⟩
              rw [← hd1] at hq
              have hK_1 : KI r_1.2 x.N (mm + 1) := by rw [hd1]; exact hK.access (hoaN (g := 7) (by omega) kOf7)
              have hS_1 : kSx (I, R, th) r_1.2 := (kSx.rfl (s := (I, R, th))).trans (by rw [hd1]; exact sx_access)
              refine x_callV (as := [.int 7, .int (nI c)]) (rest := []) (i := 0) (n' := n - 1) 108 dX1_doAwait_105 rfl mv_X1_650 rfl rfl (hT.ks.l0 (by omega)) (xnh rfl) (by omega) (xst (Nat.le_of_ble_eq_true rfl)) (c_X1_reads (g := 7) (oa := nI c) hT hK (hoaN (g := 7) (by omega) kOf7) (by omega) ((kSx.rfl (s := (I, R, th))).2 0 0 19 rfl |>.trans hme) hme16 (by omega) (kOutN hd1 ⟨?_, ?_⟩))
              · skip
                intro hz1 w1 hU1
                change X _ _ _ _ _ _ _ _ _ _
                rw [kU_ok hz1] at hq
                refine x_aload 110 dX1_doAwait_108 rfl rfl ?_
                refine x_geti 113 dX1_doAwait_110 rfl fl_X1_208 (hU1.ks.l9 (by omega)) ?_
                refine x_vi (w := r_1.2.1 9 c 1) rfl ?_
                refine x_iconst (v := 2) 114 dX1_doAwait_113 rfl rfl ?_
                refine x_icmp_eq 120 117 dX1_doAwait_114 (by decide) rfl (fun c114 => ?_) (fun c114 => ?_)
                · skip
                  rw [if_pos c114] at hq
                  refine x_aload_n 121 dX1_doAwait_120 rfl rfl ?_
                  refine x_bipush (v := 7) 123 dX1_doAwait_121 rfl rfl ?_
                  refine x_aload 125 dX1_doAwait_123 rfl rfl ?_
                  refine x_geti 128 dX1_doAwait_125 rfl fl_X1_346 (hU1.ks.l9 (by omega)) ?_
                  refine x_vi (w := r_1.2.1 9 c 0) rfl ?_
                  refine x_vi (w := nI c) (hK_1.nm.2 c (by omega)) ?_
                  obtain ⟨r_2, hd2⟩ : ∃ r : kO, r = kAccess x.N r_1.2 me 7 (nI c) 0 0 1 := ⟨_, rfl⟩
                  rw [← hd2] at hq
                  have hK_2 : KI r_2.2 x.N ((mm + 1) + 1) := by rw [hd2]; exact hK_1.access (hoaN (g := 7) (by omega) kOf7)
                  have hS_2 : kSx (I, R, th) r_2.2 := (hS_1).trans (by rw [hd2]; exact sx_access)
                  refine x_callV (as := [.int 7, .int (nI c)]) (rest := []) (i := 0) (n' := n - 1) 131 dX1_doAwait_128 rfl mv_X1_588 rfl rfl (hU1.ks.l0 (by omega)) (xnh rfl) (by omega) (xst (Nat.le_of_ble_eq_true rfl)) (c_X1_writes (g := 7) (oa := nI c) hU1 hK_1 (hoaN (g := 7) (by omega) kOf7) (by omega) ((hS_1).2 0 0 19 rfl |>.trans hme) hme16 (by omega) (kOutN hd2 ⟨?_, ?_⟩))
                  · skip
                    intro hz2 w2 hU2
                    change X _ _ _ _ _ _ _ _ _ _
                    rw [kU_ok hz2] at hq
                    unfold kAwE at hq
                    refine x_sipush (v := 256) 134 dX1_doAwait_131 rfl rfl ?_
                    refine x_aload 136 dX1_doAwait_134 rfl rfl ?_
                    refine x_geti 139 dX1_doAwait_136 rfl fl_X1_346 (hU2.ks.l9 (by omega)) ?_
                    refine x_vi (w := r_2.2.1 9 c 0) rfl ?_
                    refine x_vi (w := nI c) (hK_2.nm.2 c (by omega)) ?_
                    refine x_imuln 256 c 140 dX1_doAwait_139 rfl rfl rfl ?_
                    refine x_aload 142 dX1_doAwait_140 rfl rfl ?_
                    refine x_geti 145 dX1_doAwait_142 rfl fl_X1_718 (hU2.ks.l9 (by omega)) ?_
                    refine x_vi (w := r_2.2.1 9 c 3) rfl ?_
                    refine x_iadd 146 dX1_doAwait_145 rfl ?_
                    refine x_nmi fun x1 hx1 => ?_
                    refine x_istore 148 [(1, .ref (x.ad 0 0)), (1, .int 1), (1, .ref (x.ad 26 0)), (1, .int (nI 16)), (1, .int (nI c)), (1, .ref (x.ad 9 c)), (1, .int x1)] dX1_doAwait_146 rfl (by decide) rfl ?_
                    refine x_aload_n 149 dX1_doAwait_148 rfl rfl ?_
                    refine x_geti 152 dX1_doAwait_149 rfl fl_X1_291 (hU2.ks.l0 (by omega)) ?_
                    refine x_vi (w := r_2.2.1 0 0 21) rfl ?_
                    refine x_bipush (v := 16) 154 dX1_doAwait_152 rfl rfl ?_
                    refine x_icmp_ne 165 157 dX1_doAwait_154 (by decide) rfl (fun c154 => ?_) (fun c154 => ?_)
                    · skip
                      rw [if_neg c154] at hq
                      refine x_aload_n 166 dX1_doAwait_165 rfl rfl ?_
                      refine x_gets 169 dX1_doAwait_166 rfl fl_X1_371 (hU2.ks.l0 (by omega)) ((hS_2).2 0 0 19 rfl |>.trans hme) ?_
                      refine x_dup 170 dX1_doAwait_169 rfl rfl ?_
                      refine x_geti 173 dX1_doAwait_170 rfl fl_X1_721 (hU2.ks.l9 (by omega)) ?_
                      refine x_vi (w := r_2.2.1 9 me 17) rfl ?_
                      refine x_iconst (v := 1) 174 dX1_doAwait_173 rfl rfl ?_
                      refine x_aload 176 dX1_doAwait_174 rfl rfl ?_
                      refine x_geti 179 dX1_doAwait_176 rfl fl_X1_346 (hU2.ks.l9 (by omega)) ?_
                      refine x_vi (w := r_2.2.1 9 c 0) rfl ?_
                      refine x_vi (w := nI c) (hK_2.nm.2 c (by omega)) ?_
                      refine x_ishl 180 dX1_doAwait_179 rfl ?_
                      refine x_ior 181 dX1_doAwait_180 rfl ?_
                      refine x_puti 184 dX1_doAwait_181 rfl fl_X1_721 rfl rfl (hU2.ks.l9 (by omega)) ?_
                      refine k_nmA (v := w2) (kI_xu (c := 9) rfl) fun I1 hI1 => ?_
                      refine x_iload 186 dX1_doAwait_184 rfl rfl ?_
                      refine x_ireturn dX1_doAwait_186 rfl ?_
                      rw [hx1, hI1]
                      exact hq.ret3 hU2
                    · skip
                      rw [if_pos c154] at hq
                      refine x_aload 159 dX1_doAwait_157 rfl rfl ?_
                      refine x_callV (as := []) (rest := []) (i := c) (n' := n - 1) 162 dX1_doAwait_159 rfl mv_X1_201 rfl rfl (hU2.ks.l9 (by omega)) (xnh rfl) (by omega) (xst (Nat.le_of_ble_eq_true rfl)) (c_X10_clear hU2.ks (by omega) (by omega) ?_)
                      change X _ _ _ _ _ _ _ _ _ _
                      refine k_nmA (v := w2) (A1 := (pClrI r_2.2.1 c)) kI_pClrI fun I1 hI1 => ?_
                      refine k_nmC (v := w2) (C1 := (pClrR r_2.2.2.1 c)) kR_pClrR fun R1 hR1 => ?_
                      refine x_goto 184 dX1_doAwait_162 (by decide) ?_
                      refine x_iload 186 dX1_doAwait_184 rfl rfl ?_
                      refine x_ireturn dX1_doAwait_186 rfl ?_
                      rw [hx1, hI1, hR1]
                      exact hq.ret3 hU2
                  · skip
                    intro hz2 w2 hU2
                    rw [kU_no hz2] at hq
                    exact hq.no hz2 hU2
                · skip
                  refine x_goto 187 dX1_doAwait_117 (by decide) ?_
                  refine x_iinc 190 [(1, .ref (x.ad 0 0)), (1, .int 1), (1, .ref (x.ad 26 0)), (1, .int (nI 16)), (1, .int (nI (c + 1))), (1, .ref (x.ad 9 c)), xo] dX1_doAwait_187 rfl (by decide) rfl (xi_1 c) rfl ?_
                  refine x_goto 26 dX1_doAwait_190 (by decide) ?_
                  refine x_fgt [(1, .ref (x.ad 0 0)), (1, .int 1), (1, .ref (x.ad 26 0)), (1, .int (nI 16)), (1, .int (nI (c + 1))), xo, xo] ⟨Or.inr rfl, Or.inr rfl, Or.inr rfl, Or.inr rfl, Or.inr rfl, Or.inl rfl, Or.inl rfl, trivial⟩ ?_
                  rw [if_neg c114] at hq
                  exact ih (bb := true) (by omega) hU1 hK_1 (by omega) ((hS_1).2 0 0 19 rfl |>.trans hme) hq
              · skip
                intro hz1 w1 hU1
                rw [kU_no hz1] at hq
                exact hq.no hz1 hU1
            · skip
              refine x_goto 187 dX1_doAwait_94 (by decide) ?_
              refine x_iinc 190 [(1, .ref (x.ad 0 0)), (1, .int 1), (1, .ref (x.ad 26 0)), (1, .int (nI 16)), (1, .int (nI (c + 1))), (1, .ref (x.ad 9 c)), xo] dX1_doAwait_187 rfl (by decide) rfl (xi_1 c) rfl ?_
              refine x_goto 26 dX1_doAwait_190 (by decide) ?_
              refine x_fgt [(1, .ref (x.ad 0 0)), (1, .int 1), (1, .ref (x.ad 26 0)), (1, .int (nI 16)), (1, .int (nI (c + 1))), xo, xo] ⟨Or.inr rfl, Or.inr rfl, Or.inr rfl, Or.inr rfl, Or.inr rfl, Or.inl rfl, Or.inl rfl, trivial⟩ ?_
              rw [if_pos c91] at hq
              exact ih (bb := true) (by omega) hT hK (by omega) hme hq
          · skip
            refine x_goto 187 dX1_doAwait_80 (by decide) ?_
            refine x_iinc 190 [(1, .ref (x.ad 0 0)), (1, .int (oIf bb)), (1, .ref (x.ad 26 0)), (1, .int (nI 16)), (1, .int (nI (c + 1))), (1, .ref (x.ad 9 c)), xo] dX1_doAwait_187 rfl (by decide) rfl (xi_1 c) rfl ?_
            refine x_goto 26 dX1_doAwait_190 (by decide) ?_
            refine x_fgt [(1, .ref (x.ad 0 0)), (1, .int (oIf bb)), (1, .ref (x.ad 26 0)), (1, .int (nI 16)), (1, .int (nI (c + 1))), xo, xo] ⟨Or.inr rfl, Or.inr rfl, Or.inr rfl, Or.inr rfl, Or.inr rfl, Or.inl rfl, Or.inl rfl, trivial⟩ ?_
            rw [cif_t (show (I, R, th).1 9 c 1 = 0 ∨ ¬ (I, R, th).1 9 c 2 = nI me ∨ kAwB (I, R, th) me c from Or.inr (Or.inr c77))] at hq
            exact ih (bb := bb) (by omega) hT hK (by omega) hme hq
set_option maxHeartbeats 400000 in
set_option maxRecDepth 100000 in
theorem c_X1_doAwait {G : xG} {n : Nat} {Q : Outcome → xS → Prop} {x : kX} {I : xI} {R : xR} {v : kV} {th : List xTh} {mm : Nat} (hT : KT x v th) (hK : KI (I, R, th) x.N mm)  (hmm : mm + 100 < 16384) {me : Nat} (hme : R 0 0 19 = some me) (hme16 : me < 16) (hn : 14 ≤ n) (hq : kOs Q x (kDoAwait x.N (I, R, th) me)) : xCall G mX1_doAwait n [.ref (x.ad 0 0)] (kS I R x v) Q := by
  refine x_met (L0 := [(1, .ref (x.ad 0 0)), xo, xo, xo, xo, xo, xo]) (by decide +kernel) rfl ⟨Nat.le_of_ble_eq_true rfl, rfl⟩ ?_
  have hnb := hT.ks.nb
  unfold kDoAwait at hq
  refine x_iconst (v := 0) 1 dX1_doAwait_0 rfl rfl ?_
  refine x_istore_n 2 [(1, .ref (x.ad 0 0)), (1, .int 0), xo, xo, xo, xo, xo] dX1_doAwait_1 rfl (by decide) rfl ?_
  refine x_aload_n 3 dX1_doAwait_2 rfl rfl ?_
  refine x_bipush (v := 7) 5 dX1_doAwait_3 rfl rfl ?_
  refine x_aload_n 6 dX1_doAwait_5 rfl rfl ?_
  refine x_gets 9 dX1_doAwait_6 rfl fl_X1_371 (hT.ks.l0 (by omega)) ((kSx.rfl (s := (I, R, th))).2 0 0 19 rfl |>.trans hme) ?_
  refine x_geti 12 dX1_doAwait_9 rfl fl_X1_346 (hT.ks.l9 (by omega)) ?_
  refine x_vi (w := I 9 me 0) rfl ?_
  refine x_vi (w := nI me) (hK.nm.2 me hme16) ?_
  obtain ⟨r_1, hd1⟩ : ∃ r : kO, r = kAccess x.N (I, R, th) me 7 (nI me) 0 0 0 := ⟨_, rfl⟩
  rw [← hd1] at hq
  have hK_1 : KI r_1.2 x.N (mm + 1) := by rw [hd1]; exact hK.access (hoaN (g := 7) (by omega) kOf7)
  have hS_1 : kSx (I, R, th) r_1.2 := (kSx.rfl (s := (I, R, th))).trans (by rw [hd1]; exact sx_access)
  refine x_callV (as := [.int 7, .int (nI me)]) (rest := []) (i := 0) (n' := n - 1) 15 dX1_doAwait_12 rfl mv_X1_650 rfl rfl (hT.ks.l0 (by omega)) (xnh rfl) (by omega) (xst (Nat.le_of_ble_eq_true rfl)) (c_X1_reads (g := 7) (oa := nI me) hT hK (hoaN (g := 7) (by omega) kOf7) (by omega) ((kSx.rfl (s := (I, R, th))).2 0 0 19 rfl |>.trans hme) hme16 (by omega) (kOutN hd1 ⟨?_, ?_⟩))
  · skip
    intro hz1 w1 hU1
    change X _ _ _ _ _ _ _ _ _ _
    rw [kU_ok hz1] at hq
    refine x_aload_n 16 dX1_doAwait_15 rfl rfl ?_
    refine x_getz 19 dX1_doAwait_16 rfl fl_X1_39 (hU1.ks.l0 (by omega)) (hU1.ks.z0_8 (by omega)) ?_
    refine x_astore_n 20 [(1, .ref (x.ad 0 0)), (1, .int 0), (1, .ref (x.ad 26 0)), xo, xo, xo, xo] dX1_doAwait_19 rfl (by decide) rfl ?_
    refine x_aload_n 21 dX1_doAwait_20 rfl rfl ?_
    refine x_alen 22 dX1_doAwait_21 rfl ar_26 (hU1.ks.l26 (by omega)) ?_
    refine x_vi (congrArg nI (hU1.ks.n26 (by omega))) ?_
    refine x_istore_n 23 [(1, .ref (x.ad 0 0)), (1, .int 0), (1, .ref (x.ad 26 0)), (1, .int (nI 16)), xo, xo, xo] dX1_doAwait_22 rfl (by decide) rfl ?_
    refine x_iconst (v := 0) 24 dX1_doAwait_23 rfl rfl ?_
    refine x_istore 26 [(1, .ref (x.ad 0 0)), (1, .int 0), (1, .ref (x.ad 26 0)), (1, .int (nI 16)), (1, .int 0), xo, xo] dX1_doAwait_24 rfl (by decide) rfl ?_
    exact l_X1_doAwait (c := 0) (bb := false) hme16 (by omega) 16 (by omega) hU1 hK_1 (by omega) ((hS_1).2 0 0 19 rfl |>.trans hme) hq
  · skip
    intro hz1 w1 hU1
    rw [kU_no hz1] at hq
    exact hq.no hz1 hU1
