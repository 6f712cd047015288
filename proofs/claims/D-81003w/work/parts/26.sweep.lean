set_option maxRecDepth 100000
section TL
variable {I : xI} {J : xJ} {R : xR} {T : xT} {cap jk jo jf js jr jw t q : Nat} {v1 v2 v5 v6 : Int32} {v3 v4 : Int64}
theorem th_put (ht : TH0 R T cap jk jo jf js jr jw) : thAt (xu (xu (xu (xu I 31 jk t v1) 31 jo t v2) 31 jr t v5) 31 jw t v6) (xu (xu J 32 jf t v3) 32 js t v4) jk jo jf js jr jw t = (v1, v2, v3, v4, v5, v6) := by
  unfold thAt
  rw [xu_i ht.xkw, xu_i ht.xkr, xu_i ht.xko, xu_eq, xu_i ht.xow, xu_i ht.xor_, xu_eq, xu_i ht.xrw_, xu_eq, xu_eq, xu_i ht.xfs, xu_eq, xu_eq]
theorem th_oth (hq : q ≠ t) : thAt (xu (xu (xu (xu I 31 jk t v1) 31 jo t v2) 31 jr t v5) 31 jw t v6) (xu (xu J 32 jf t v3) 32 js t v4) jk jo jf js jr jw q = thAt I J jk jo jf js jr jw q := by
  unfold thAt
  rw [xu_k hq, xu_k hq, xu_k hq, xu_k hq, xu_k hq, xu_k hq, xu_k hq, xu_k hq, xu_k hq, xu_k hq, xu_k hq, xu_k hq, xu_k hq, xu_k hq, xu_k hq, xu_k hq, xu_k hq, xu_k hq, xu_k hq, xu_k hq]
theorem th_r (ht : TH0 R T cap jk jo jf js jr jw) : thAt (xu I 31 jr t v5) J jk jo jf js jr jw q = if q = t then (I 31 jk q, I 31 jo q, J 32 jf q, J 32 js q, v5, I 31 jw q) else thAt I J jk jo jf js jr jw q := by
  unfold thAt
  rw [xu_i ht.xkr, xu_i ht.xor_, xu_i (fun e => ht.xrw_ e.symm)]
  by_cases h : q = t
  · subst h; rw [if_pos rfl, xu_eq]
  · rw [if_neg h, xu_k h]
theorem th_w (ht : TH0 R T cap jk jo jf js jr jw) : thAt (xu I 31 jw t v6) J jk jo jf js jr jw q = if q = t then (I 31 jk q, I 31 jo q, J 32 jf q, J 32 js q, I 31 jr q, v6) else thAt I J jk jo jf js jr jw q := by
  unfold thAt
  rw [xu_i ht.xkw, xu_i ht.xow, xu_i ht.xrw_]
  by_cases h : q = t
  · subst h; rw [if_pos rfl, xu_eq]
  · rw [if_neg h, xu_k h]
/-- the things as a list -/
def thL (I : xI) (J : xJ) (jk jo jf js jr jw n : Nat) : List xTh := (List.range n).map (thAt I J jk jo jf js jr jw)
theorem thL_len {n : Nat} : (thL I J jk jo jf js jr jw n).length = n := by simp [thL]
theorem thL_succ {n : Nat} : thL I J jk jo jf js jr jw (n + 1) = thL I J jk jo jf js jr jw n ++ [thAt I J jk jo jf js jr jw n] := by
  unfold thL; rw [List.range_succ, List.map_append]; rfl
theorem thL_eq {I' : xI} {J' : xJ} {jk' jo' jf' js' jr' jw' n : Nat} (h : ∀ q, q < n → thAt I' J' jk' jo' jf' js' jr' jw' q = thAt I J jk jo jf js jr jw q) : thL I' J' jk' jo' jf' js' jr' jw' n = thL I J jk jo jf js jr jw n := by
  unfold thL; exact List.map_congr_left fun q hq => h q (List.mem_range.mp hq)
end TL
def thKeep (t : xTh) : Bool := !(decide (t.2.2.2.2.1 = 0) && decide (t.2.2.2.2.2 = -1))
theorem thKeep_f {t : xTh} (h1 : t.2.2.2.2.1 = 0) (h2 : t.2.2.2.2.2 = -1) : thKeep t = false := by simp [thKeep, h1, h2]
theorem thKeep_1 {t : xTh} (h1 : ¬ t.2.2.2.2.1 = 0) : thKeep t = true := by simp [thKeep, h1]
theorem thKeep_2 {t : xTh} (h1 : ¬ t.2.2.2.2.2 = -1) : thKeep t = true := by simp [thKeep, h1]
/-- nothing but the things' rows is touched -/
def thFr (I : xI) (J : xJ) (I' : xI) (J' : xJ) : Prop := (∀ c, c ≠ 2 → c ≠ 31 → I' c = I c) ∧ (∀ c, c ≠ 32 → J' c = J c)
theorem xu_f {α : Type} {f : Nat → Nat → Nat → α} {c i k : Nat} {v : α} {c' : Nat} (h : c' ≠ c) : xu f c i k v c' = f c' := by funext i' k'; exact xu_c h
theorem xur_f {α : Type} {f : Nat → Nat → Nat → α} {c i : Nat} {g : Nat → α} {c' : Nat} (h : c' ≠ c) : xur f c i g c' = f c' := by funext i' k'; exact xur_c h
theorem thFr.i {I : xI} {J : xJ} {I' : xI} {J' : xJ} {i k : Nat} {v : Int32} (h : thFr I J I' J') : thFr I J (xu I' 31 i k v) J' := ⟨fun c h1 h2 => (xu_f h2).trans (h.1 c h1 h2), h.2⟩
theorem thFr.m {I : xI} {J : xJ} {I' : xI} {J' : xJ} {i k : Nat} {v : Int32} (h : thFr I J I' J') : thFr I J (xu I' 2 i k v) J' := ⟨fun c h1 h2 => (xu_f h1).trans (h.1 c h1 h2), h.2⟩
theorem thFr.j {I : xI} {J : xJ} {I' : xI} {J' : xJ} {i k : Nat} {v : Int64} (h : thFr I J I' J') : thFr I J I' (xu J' 32 i k v) := ⟨h.1, fun c h1 => (xu_f h1).trans (h.2 c h1)⟩
theorem thFr.rfl {I : xI} {J : xJ} : thFr I J I J := ⟨fun _ _ _ => by rfl, fun _ _ => by rfl⟩
theorem thFr.trans {I : xI} {J : xJ} {I' : xI} {J' : xJ} {I2 : xI} {J2 : xJ} (h : thFr I J I' J') (g : thFr I' J' I2 J2) : thFr I J I2 J2 := ⟨fun c h1 h2 => (g.1 c h1 h2).trans (h.1 c h1 h2), fun c h1 => (g.2 c h1).trans (h.2 c h1)⟩
theorem dX3_sweep_0 : decode cX3_sweep 0 = .ok (.iconst 0, 1) := by decide +kernel
theorem dX3_sweep_1 : decode cX3_sweep 1 = .ok (.istore_n 1, 1) := by decide +kernel
theorem dX3_sweep_2 : decode cX3_sweep 2 = .ok (.iconst 0, 1) := by decide +kernel
theorem dX3_sweep_3 : decode cX3_sweep 3 = .ok (.istore_n 2, 1) := by decide +kernel
theorem dX3_sweep_4 : decode cX3_sweep 4 = .ok (.iload_n 2, 1) := by decide +kernel
theorem dX3_sweep_5 : decode cX3_sweep 5 = .ok (.aload_n 0, 1) := by decide +kernel
theorem dX3_sweep_6 : decode cX3_sweep 6 = .ok (.getfield 37, 3) := by decide +kernel
theorem dX3_sweep_9 : decode cX3_sweep 9 = .ok (.if_icmp .ge 106, 3) := by decide +kernel
theorem dX3_sweep_12 : decode cX3_sweep 12 = .ok (.aload_n 0, 1) := by decide +kernel
theorem dX3_sweep_13 : decode cX3_sweep 13 = .ok (.getfield 25, 3) := by decide +kernel
theorem dX3_sweep_16 : decode cX3_sweep 16 = .ok (.iload_n 2, 1) := by decide +kernel
theorem dX3_sweep_17 : decode cX3_sweep 17 = .ok (.iaload, 1) := by decide +kernel
theorem dX3_sweep_18 : decode cX3_sweep 18 = .ok (.ifCond .ne 16, 3) := by decide +kernel
theorem dX3_sweep_21 : decode cX3_sweep 21 = .ok (.aload_n 0, 1) := by decide +kernel
theorem dX3_sweep_22 : decode cX3_sweep 22 = .ok (.getfield 28, 3) := by decide +kernel
theorem dX3_sweep_25 : decode cX3_sweep 25 = .ok (.iload_n 2, 1) := by decide +kernel
theorem dX3_sweep_26 : decode cX3_sweep 26 = .ok (.iaload, 1) := by decide +kernel
theorem dX3_sweep_27 : decode cX3_sweep 27 = .ok (.iconst (-1), 1) := by decide +kernel
theorem dX3_sweep_28 : decode cX3_sweep 28 = .ok (.if_icmp .ne 6, 3) := by decide +kernel
theorem dX3_sweep_31 : decode cX3_sweep 31 = .ok (.goto 78, 3) := by decide +kernel
theorem dX3_sweep_34 : decode cX3_sweep 34 = .ok (.aload_n 0, 1) := by decide +kernel
theorem dX3_sweep_35 : decode cX3_sweep 35 = .ok (.getfield 9, 3) := by decide +kernel
theorem dX3_sweep_38 : decode cX3_sweep 38 = .ok (.iload_n 1, 1) := by decide +kernel
theorem dX3_sweep_39 : decode cX3_sweep 39 = .ok (.aload_n 0, 1) := by decide +kernel
theorem dX3_sweep_40 : decode cX3_sweep 40 = .ok (.getfield 9, 3) := by decide +kernel
theorem dX3_sweep_43 : decode cX3_sweep 43 = .ok (.iload_n 2, 1) := by decide +kernel
theorem dX3_sweep_44 : decode cX3_sweep 44 = .ok (.iaload, 1) := by decide +kernel
theorem dX3_sweep_45 : decode cX3_sweep 45 = .ok (.iastore, 1) := by decide +kernel
theorem dX3_sweep_46 : decode cX3_sweep 46 = .ok (.aload_n 0, 1) := by decide +kernel
theorem dX3_sweep_47 : decode cX3_sweep 47 = .ok (.getfield 15, 3) := by decide +kernel
theorem dX3_sweep_50 : decode cX3_sweep 50 = .ok (.iload_n 1, 1) := by decide +kernel
theorem dX3_sweep_51 : decode cX3_sweep 51 = .ok (.aload_n 0, 1) := by decide +kernel
theorem dX3_sweep_52 : decode cX3_sweep 52 = .ok (.getfield 15, 3) := by decide +kernel
theorem dX3_sweep_55 : decode cX3_sweep 55 = .ok (.iload_n 2, 1) := by decide +kernel
theorem dX3_sweep_56 : decode cX3_sweep 56 = .ok (.iaload, 1) := by decide +kernel
theorem dX3_sweep_57 : decode cX3_sweep 57 = .ok (.iastore, 1) := by decide +kernel
theorem dX3_sweep_58 : decode cX3_sweep 58 = .ok (.aload_n 0, 1) := by decide +kernel
theorem dX3_sweep_59 : decode cX3_sweep 59 = .ok (.getfield 18, 3) := by decide +kernel
theorem dX3_sweep_62 : decode cX3_sweep 62 = .ok (.iload_n 1, 1) := by decide +kernel
theorem dX3_sweep_63 : decode cX3_sweep 63 = .ok (.aload_n 0, 1) := by decide +kernel
theorem dX3_sweep_64 : decode cX3_sweep 64 = .ok (.getfield 18, 3) := by decide +kernel
theorem dX3_sweep_67 : decode cX3_sweep 67 = .ok (.iload_n 2, 1) := by decide +kernel
theorem dX3_sweep_68 : decode cX3_sweep 68 = .ok (.laload, 1) := by decide +kernel
theorem dX3_sweep_69 : decode cX3_sweep 69 = .ok (.lastore, 1) := by decide +kernel
theorem dX3_sweep_70 : decode cX3_sweep 70 = .ok (.aload_n 0, 1) := by decide +kernel
theorem dX3_sweep_71 : decode cX3_sweep 71 = .ok (.getfield 22, 3) := by decide +kernel
theorem dX3_sweep_74 : decode cX3_sweep 74 = .ok (.iload_n 1, 1) := by decide +kernel
theorem dX3_sweep_75 : decode cX3_sweep 75 = .ok (.aload_n 0, 1) := by decide +kernel
theorem dX3_sweep_76 : decode cX3_sweep 76 = .ok (.getfield 22, 3) := by decide +kernel
theorem dX3_sweep_79 : decode cX3_sweep 79 = .ok (.iload_n 2, 1) := by decide +kernel
theorem dX3_sweep_80 : decode cX3_sweep 80 = .ok (.laload, 1) := by decide +kernel
theorem dX3_sweep_81 : decode cX3_sweep 81 = .ok (.lastore, 1) := by decide +kernel
theorem dX3_sweep_82 : decode cX3_sweep 82 = .ok (.aload_n 0, 1) := by decide +kernel
theorem dX3_sweep_83 : decode cX3_sweep 83 = .ok (.getfield 25, 3) := by decide +kernel
theorem dX3_sweep_86 : decode cX3_sweep 86 = .ok (.iload_n 1, 1) := by decide +kernel
theorem dX3_sweep_87 : decode cX3_sweep 87 = .ok (.aload_n 0, 1) := by decide +kernel
theorem dX3_sweep_88 : decode cX3_sweep 88 = .ok (.getfield 25, 3) := by decide +kernel
theorem dX3_sweep_91 : decode cX3_sweep 91 = .ok (.iload_n 2, 1) := by decide +kernel
theorem dX3_sweep_92 : decode cX3_sweep 92 = .ok (.iaload, 1) := by decide +kernel
theorem dX3_sweep_93 : decode cX3_sweep 93 = .ok (.iastore, 1) := by decide +kernel
theorem dX3_sweep_94 : decode cX3_sweep 94 = .ok (.aload_n 0, 1) := by decide +kernel
theorem dX3_sweep_95 : decode cX3_sweep 95 = .ok (.getfield 28, 3) := by decide +kernel
theorem dX3_sweep_98 : decode cX3_sweep 98 = .ok (.iload_n 1, 1) := by decide +kernel
theorem dX3_sweep_99 : decode cX3_sweep 99 = .ok (.iinc 1 1, 3) := by decide +kernel
theorem dX3_sweep_102 : decode cX3_sweep 102 = .ok (.aload_n 0, 1) := by decide +kernel
theorem dX3_sweep_103 : decode cX3_sweep 103 = .ok (.getfield 28, 3) := by decide +kernel
theorem dX3_sweep_106 : decode cX3_sweep 106 = .ok (.iload_n 2, 1) := by decide +kernel
theorem dX3_sweep_107 : decode cX3_sweep 107 = .ok (.iaload, 1) := by decide +kernel
theorem dX3_sweep_108 : decode cX3_sweep 108 = .ok (.iastore, 1) := by decide +kernel
theorem dX3_sweep_109 : decode cX3_sweep 109 = .ok (.iinc 2 1, 3) := by decide +kernel
theorem dX3_sweep_112 : decode cX3_sweep 112 = .ok (.goto (-108), 3) := by decide +kernel
theorem dX3_sweep_115 : decode cX3_sweep 115 = .ok (.aload_n 0, 1) := by decide +kernel
theorem dX3_sweep_116 : decode cX3_sweep 116 = .ok (.iload_n 1, 1) := by decide +kernel
theorem dX3_sweep_117 : decode cX3_sweep 117 = .ok (.putfield 37, 3) := by decide +kernel
theorem dX3_sweep_120 : decode cX3_sweep 120 = .ok (.return_, 1) := by decide +kernel
set_option maxHeartbeats 4000000 in
set_option maxRecDepth 100000 in
theorem l_X3_sweep {G : xG} {n a b : Nat} {Q : Outcome → xS → Prop} {Z : xR} {T : xT} {R : xR} {I0 : xI} {J0 : xJ} {N B : Nat} (hk : KS Z T N B) {nt cap jk jo jf js jr jw : Nat} (ht : TH0 R T cap jk jo jf js jr jw) (hnt : nt ≤ cap) (hq : ∀ (I' : xI) (J' : xJ) (t : Nat), thFr I0 J0 I' J' → I' 2 0 0 = nI t → t ≤ nt → thL I' J' jk jo jf js jr jw t = (thL I0 J0 jk jo jf js jr jw nt).filter thKeep → Q (.returned none) (I', J', R, Z, T)) (k t : Nat) (I : xI) (J : xJ) (hn : 1 ≤ n) :
    (t ≤ k ∧ k ≤ nt) → (thFr I0 J0 I J) → (I 2 0 0 = nI nt) → (thL I J jk jo jf js jr jw t = (thL I0 J0 jk jo jf js jr jw k).filter thKeep) → (∀ q, k ≤ q → q < nt → thAt I J jk jo jf js jr jw q = thAt I0 J0 jk jo jf js jr jw q) → X G mX3_sweep n a b Q (I, J, R, Z, T) 4 [(1, .ref (T.ad 2 0)), (1, .int (nI t)), (1, .int (nI k))] [] := by
  induction hm : nt - k using Nat.strongRecOn generalizing k t I J with
  | _ m_ ih =>
    intro h8 hfr hmn hs0 hs1
    have hc2 := ht.xc2
    refine x_iload_n 5 dX3_sweep_4 rfl rfl ?_
    refine x_aload_n 6 dX3_sweep_5 rfl rfl ?_
    refine x_geti 9 dX3_sweep_6 rfl fl_X3_37 (hk.l2 (by omega)) ?_
    refine x_vi (w := nI nt) hmn ?_
    refine x_icmp_ge 115 12 dX3_sweep_9 (by decide) rfl (fun c9 => ?_) (fun c9 => ?_)
    · skip
      have c9 : nt ≤ k := (nI_leI (a := nt) (b := k) (by omega) (by omega)).mp c9
      refine x_aload_n 116 dX3_sweep_115 rfl rfl ?_
      refine x_iload_n 117 dX3_sweep_116 rfl rfl ?_
      refine x_puti 120 dX3_sweep_117 rfl fl_X3_37 rfl rfl (hk.l2 (by omega)) ?_
      refine x_nmI fun I1 hI1 => ?_
      refine x_vreturn dX3_sweep_120 rfl ?_
      have e : k = nt := by omega
      rw [e] at hs0
      rw [hI1]
      exact hq _ J t hfr.m xu_eq (by omega) (by rw [← hs0]; exact thL_eq (fun q _ => by unfold thAt; rw [xu_c (by decide), xu_c (by decide), xu_c (by decide), xu_c (by decide)]))
    · skip
      have c9 : ¬ (nt ≤ k) := fun h => c9 ((nI_leI (a := nt) (b := k) (by omega) (by omega)).mpr h)
      refine x_aload_n 13 dX3_sweep_12 rfl rfl ?_
      refine x_gets 16 dX3_sweep_13 rfl fl_X3_25 (hk.l2 (by omega)) ht.xr ?_
      refine x_iload_n 17 dX3_sweep_16 rfl rfl ?_
      refine x_iald 18 dX3_sweep_17 rfl ar_31 ht.xlr (xb ht.xnr (by omega) (by omega)) ?_
      refine x_if_ne 34 21 dX3_sweep_18 (by decide) rfl (fun c18 => ?_) (fun c18 => ?_)
      · skip
        refine x_aload_n 35 dX3_sweep_34 rfl rfl ?_
        refine x_gets 38 dX3_sweep_35 rfl fl_X3_9 (hk.l2 (by omega)) ht.xk ?_
        refine x_iload_n 39 dX3_sweep_38 rfl rfl ?_
        refine x_aload_n 40 dX3_sweep_39 rfl rfl ?_
        refine x_gets 43 dX3_sweep_40 rfl fl_X3_9 (hk.l2 (by omega)) ht.xk ?_
        refine x_iload_n 44 dX3_sweep_43 rfl rfl ?_
        refine x_iald 45 dX3_sweep_44 rfl ar_31 ht.xlk (xb ht.xnk (by omega) (by omega)) ?_
        refine x_iast 46 dX3_sweep_45 rfl ar_31 (by decide) (by decide) ht.xlk (xb ht.xnk (by omega) (by omega)) ?_
        refine x_nmI fun I1 hI1 => ?_
        refine x_aload_n 47 dX3_sweep_46 rfl rfl ?_
        refine x_gets 50 dX3_sweep_47 rfl fl_X3_15 (hk.l2 (by omega)) ht.xo ?_
        refine x_iload_n 51 dX3_sweep_50 rfl rfl ?_
        refine x_aload_n 52 dX3_sweep_51 rfl rfl ?_
        refine x_gets 55 dX3_sweep_52 rfl fl_X3_15 (hk.l2 (by omega)) ht.xo ?_
        refine x_iload_n 56 dX3_sweep_55 rfl rfl ?_
        refine x_iald 57 dX3_sweep_56 rfl ar_31 ht.xlo (xb ht.xno (by omega) (by omega)) ?_
        refine x_vi (w := I 31 jo k) (by rw [hI1, xu_i (fun e => ht.xko e.symm)]) ?_
        refine x_iast 58 dX3_sweep_57 rfl ar_31 (by decide) (by decide) ht.xlo (xb ht.xno (by omega) (by omega)) ?_
        refine x_nmI fun I2 hI2 => ?_
        refine x_aload_n 59 dX3_sweep_58 rfl rfl ?_
        refine x_gets 62 dX3_sweep_59 rfl fl_X3_18 (hk.l2 (by omega)) ht.xf ?_
        refine x_iload_n 63 dX3_sweep_62 rfl rfl ?_
        refine x_aload_n 64 dX3_sweep_63 rfl rfl ?_
        refine x_gets 67 dX3_sweep_64 rfl fl_X3_18 (hk.l2 (by omega)) ht.xf ?_
        refine x_iload_n 68 dX3_sweep_67 rfl rfl ?_
        refine x_lald 69 dX3_sweep_68 rfl ar_32 ht.xlf (xb ht.xnf (by omega) (by omega)) ?_
        refine x_last 70 dX3_sweep_69 rfl ar_32 (by decide) ht.xlf (xb ht.xnf (by omega) (by omega)) ?_
        refine x_nmJ fun J1 hJ1 => ?_
        refine x_aload_n 71 dX3_sweep_70 rfl rfl ?_
        refine x_gets 74 dX3_sweep_71 rfl fl_X3_22 (hk.l2 (by omega)) ht.xs ?_
        refine x_iload_n 75 dX3_sweep_74 rfl rfl ?_
        refine x_aload_n 76 dX3_sweep_75 rfl rfl ?_
        refine x_gets 79 dX3_sweep_76 rfl fl_X3_22 (hk.l2 (by omega)) ht.xs ?_
        refine x_iload_n 80 dX3_sweep_79 rfl rfl ?_
        refine x_lald 81 dX3_sweep_80 rfl ar_32 ht.xls (xb ht.xns (by omega) (by omega)) ?_
        refine x_last 82 dX3_sweep_81 rfl ar_32 (by decide) ht.xls (xb ht.xns (by omega) (by omega)) ?_
        refine x_nmJ fun J2 hJ2 => ?_
        refine x_aload_n 83 dX3_sweep_82 rfl rfl ?_
        refine x_gets 86 dX3_sweep_83 rfl fl_X3_25 (hk.l2 (by omega)) ht.xr ?_
        refine x_iload_n 87 dX3_sweep_86 rfl rfl ?_
        refine x_aload_n 88 dX3_sweep_87 rfl rfl ?_
        refine x_gets 91 dX3_sweep_88 rfl fl_X3_25 (hk.l2 (by omega)) ht.xr ?_
        refine x_iload_n 92 dX3_sweep_91 rfl rfl ?_
        refine x_iald 93 dX3_sweep_92 rfl ar_31 ht.xlr (xb ht.xnr (by omega) (by omega)) ?_
        refine x_vi (w := I 31 jr k) (by rw [hI2, hI1, xu_i (fun e => ht.xor_ e.symm), xu_i (fun e => ht.xkr e.symm)]) ?_
        refine x_iast 94 dX3_sweep_93 rfl ar_31 (by decide) (by decide) ht.xlr (xb ht.xnr (by omega) (by omega)) ?_
        refine x_nmI fun I3 hI3 => ?_
        refine x_aload_n 95 dX3_sweep_94 rfl rfl ?_
        refine x_gets 98 dX3_sweep_95 rfl fl_X3_28 (hk.l2 (by omega)) ht.xw ?_
        refine x_iload_n 99 dX3_sweep_98 rfl rfl ?_
        refine x_iinc 102 [(1, .ref (T.ad 2 0)), (1, .int (nI (t + 1))), (1, .int (nI k))] dX3_sweep_99 rfl (by decide) rfl (xi_1 t) rfl ?_
        refine x_aload_n 103 dX3_sweep_102 rfl rfl ?_
        refine x_gets 106 dX3_sweep_103 rfl fl_X3_28 (hk.l2 (by omega)) ht.xw ?_
        refine x_iload_n 107 dX3_sweep_106 rfl rfl ?_
        refine x_iald 108 dX3_sweep_107 rfl ar_31 ht.xlw (xb ht.xnw (by omega) (by omega)) ?_
        refine x_vi (w := I 31 jw k) (by rw [hI3, hI2, hI1, xu_i (fun e => ht.xrw_ e.symm), xu_i (fun e => ht.xow e.symm), xu_i (fun e => ht.xkw e.symm)]) ?_
        refine x_iast 109 dX3_sweep_108 rfl ar_31 (by decide) (by decide) ht.xlw (xb ht.xnw (by omega) (by omega)) ?_
        refine x_nmI fun I4 hI4 => ?_
        refine x_iinc 112 [(1, .ref (T.ad 2 0)), (1, .int (nI (t + 1))), (1, .int (nI (k + 1)))] dX3_sweep_109 rfl (by decide) rfl (xi_1 k) rfl ?_
        refine x_goto 4 dX3_sweep_112 (by decide) ?_
        have eI : I4 = xu (xu (xu (xu I 31 jk t (I 31 jk k)) 31 jo t (I 31 jo k)) 31 jr t (I 31 jr k)) 31 jw t (I 31 jw k) := by rw [hI4, hI3, hI2, hI1]
        have eJ : J2 = xu (xu J 32 jf t (J 32 jf k)) 32 js t (J 32 js k) := by rw [hJ2, hJ1, xu_i (fun e => ht.xfs e.symm)]
        have eT : thAt I4 J2 jk jo jf js jr jw t = thAt I0 J0 jk jo jf js jr jw k := by rw [eI, eJ, th_put ht]; exact hs1 k (by omega) (by omega)
        have eO : ∀ q, q ≠ t → thAt I4 J2 jk jo jf js jr jw q = thAt I J jk jo jf js jr jw q := fun q hq_ => by rw [eI, eJ]; exact th_oth hq_
        have kp : thKeep (thAt I0 J0 jk jo jf js jr jw k) = true := by rw [← hs1 k (by omega) (by omega)]; exact thKeep_1 c18
        exact ih _ (by rw [← hm]; omega) (k + 1) (t + 1) I4 J2 rfl (by omega) (by rw [eI, eJ]; exact hfr.i.i.i.i.j.j) (by rw [eI, xu_c (by decide), xu_c (by decide), xu_c (by decide), xu_c (by decide)]; exact hmn) (by rw [thL_succ (n := t), thL_succ (n := k), List.filter_append, ← hs0, eT, thL_eq (fun q hq_ => eO q (by omega)), show List.filter thKeep [thAt I0 J0 jk jo jf js jr jw k] = [thAt I0 J0 jk jo jf js jr jw k] from List.filter_cons_of_pos kp]) (fun q h1 h2 => (eO q (by omega)).trans (hs1 q (by omega) h2))
      · skip
        refine x_aload_n 22 dX3_sweep_21 rfl rfl ?_
        refine x_gets 25 dX3_sweep_22 rfl fl_X3_28 (hk.l2 (by omega)) ht.xw ?_
        refine x_iload_n 26 dX3_sweep_25 rfl rfl ?_
        refine x_iald 27 dX3_sweep_26 rfl ar_31 ht.xlw (xb ht.xnw (by omega) (by omega)) ?_
        refine x_iconst (v := -1) 28 dX3_sweep_27 rfl rfl ?_
        refine x_icmp_ne 34 31 dX3_sweep_28 (by decide) rfl (fun c28 => ?_) (fun c28 => ?_)
        · skip
          refine x_aload_n 35 dX3_sweep_34 rfl rfl ?_
          refine x_gets 38 dX3_sweep_35 rfl fl_X3_9 (hk.l2 (by omega)) ht.xk ?_
          refine x_iload_n 39 dX3_sweep_38 rfl rfl ?_
          refine x_aload_n 40 dX3_sweep_39 rfl rfl ?_
          refine x_gets 43 dX3_sweep_40 rfl fl_X3_9 (hk.l2 (by omega)) ht.xk ?_
          refine x_iload_n 44 dX3_sweep_43 rfl rfl ?_
          refine x_iald 45 dX3_sweep_44 rfl ar_31 ht.xlk (xb ht.xnk (by omega) (by omega)) ?_
          refine x_iast 46 dX3_sweep_45 rfl ar_31 (by decide) (by decide) ht.xlk (xb ht.xnk (by omega) (by omega)) ?_
          refine x_nmI fun I1 hI1 => ?_
          refine x_aload_n 47 dX3_sweep_46 rfl rfl ?_
          refine x_gets 50 dX3_sweep_47 rfl fl_X3_15 (hk.l2 (by omega)) ht.xo ?_
          refine x_iload_n 51 dX3_sweep_50 rfl rfl ?_
          refine x_aload_n 52 dX3_sweep_51 rfl rfl ?_
          refine x_gets 55 dX3_sweep_52 rfl fl_X3_15 (hk.l2 (by omega)) ht.xo ?_
          refine x_iload_n 56 dX3_sweep_55 rfl rfl ?_
          refine x_iald 57 dX3_sweep_56 rfl ar_31 ht.xlo (xb ht.xno (by omega) (by omega)) ?_
          refine x_vi (w := I 31 jo k) (by rw [hI1, xu_i (fun e => ht.xko e.symm)]) ?_
          refine x_iast 58 dX3_sweep_57 rfl ar_31 (by decide) (by decide) ht.xlo (xb ht.xno (by omega) (by omega)) ?_
          refine x_nmI fun I2 hI2 => ?_
          refine x_aload_n 59 dX3_sweep_58 rfl rfl ?_
          refine x_gets 62 dX3_sweep_59 rfl fl_X3_18 (hk.l2 (by omega)) ht.xf ?_
          refine x_iload_n 63 dX3_sweep_62 rfl rfl ?_
          refine x_aload_n 64 dX3_sweep_63 rfl rfl ?_
          refine x_gets 67 dX3_sweep_64 rfl fl_X3_18 (hk.l2 (by omega)) ht.xf ?_
          refine x_iload_n 68 dX3_sweep_67 rfl rfl ?_
          refine x_lald 69 dX3_sweep_68 rfl ar_32 ht.xlf (xb ht.xnf (by omega) (by omega)) ?_
          refine x_last 70 dX3_sweep_69 rfl ar_32 (by decide) ht.xlf (xb ht.xnf (by omega) (by omega)) ?_
          refine x_nmJ fun J1 hJ1 => ?_
          refine x_aload_n 71 dX3_sweep_70 rfl rfl ?_
          refine x_gets 74 dX3_sweep_71 rfl fl_X3_22 (hk.l2 (by omega)) ht.xs ?_
          refine x_iload_n 75 dX3_sweep_74 rfl rfl ?_
          refine x_aload_n 76 dX3_sweep_75 rfl rfl ?_
          refine x_gets 79 dX3_sweep_76 rfl fl_X3_22 (hk.l2 (by omega)) ht.xs ?_
          refine x_iload_n 80 dX3_sweep_79 rfl rfl ?_
          refine x_lald 81 dX3_sweep_80 rfl ar_32 ht.xls (xb ht.xns (by omega) (by omega)) ?_
          refine x_last 82 dX3_sweep_81 rfl ar_32 (by decide) ht.xls (xb ht.xns (by omega) (by omega)) ?_
          refine x_nmJ fun J2 hJ2 => ?_
          refine x_aload_n 83 dX3_sweep_82 rfl rfl ?_
          refine x_gets 86 dX3_sweep_83 rfl fl_X3_25 (hk.l2 (by omega)) ht.xr ?_
          refine x_iload_n 87 dX3_sweep_86 rfl rfl ?_
          refine x_aload_n 88 dX3_sweep_87 rfl rfl ?_
          refine x_gets 91 dX3_sweep_88 rfl fl_X3_25 (hk.l2 (by omega)) ht.xr ?_
          refine x_iload_n 92 dX3_sweep_91 rfl rfl ?_
          refine x_iald 93 dX3_sweep_92 rfl ar_31 ht.xlr (xb ht.xnr (by omega) (by omega)) ?_
          refine x_vi (w := I 31 jr k) (by rw [hI2, hI1, xu_i (fun e => ht.xor_ e.symm), xu_i (fun e => ht.xkr e.symm)]) ?_
          refine x_iast 94 dX3_sweep_93 rfl ar_31 (by decide) (by decide) ht.xlr (xb ht.xnr (by omega) (by omega)) ?_
          refine x_nmI fun I3 hI3 => ?_
          refine x_aload_n 95 dX3_sweep_94 rfl rfl ?_
          refine x_gets 98 dX3_sweep_95 rfl fl_X3_28 (hk.l2 (by omega)) ht.xw ?_
          refine x_iload_n 99 dX3_sweep_98 rfl rfl ?_
          refine x_iinc 102 [(1, .ref (T.ad 2 0)), (1, .int (nI (t + 1))), (1, .int (nI k))] dX3_sweep_99 rfl (by decide) rfl (xi_1 t) rfl ?_
          refine x_aload_n 103 dX3_sweep_102 rfl rfl ?_
          refine x_gets 106 dX3_sweep_103 rfl fl_X3_28 (hk.l2 (by omega)) ht.xw ?_
          refine x_iload_n 107 dX3_sweep_106 rfl rfl ?_
          refine x_iald 108 dX3_sweep_107 rfl ar_31 ht.xlw (xb ht.xnw (by omega) (by omega)) ?_
          refine x_vi (w := I 31 jw k) (by rw [hI3, hI2, hI1, xu_i (fun e => ht.xrw_ e.symm), xu_i (fun e => ht.xow e.symm), xu_i (fun e => ht.xkw e.symm)]) ?_
          refine x_iast 109 dX3_sweep_108 rfl ar_31 (by decide) (by decide) ht.xlw (xb ht.xnw (by omega) (by omega)) ?_
          refine x_nmI fun I4 hI4 => ?_
          refine x_iinc 112 [(1, .ref (T.ad 2 0)), (1, .int (nI (t + 1))), (1, .int (nI (k + 1)))] dX3_sweep_109 rfl (by decide) rfl (xi_1 k) rfl ?_
          refine x_goto 4 dX3_sweep_112 (by decide) ?_
          have eI : I4 = xu (xu (xu (xu I 31 jk t (I 31 jk k)) 31 jo t (I 31 jo k)) 31 jr t (I 31 jr k)) 31 jw t (I 31 jw k) := by rw [hI4, hI3, hI2, hI1]
          have eJ : J2 = xu (xu J 32 jf t (J 32 jf k)) 32 js t (J 32 js k) := by rw [hJ2, hJ1, xu_i (fun e => ht.xfs e.symm)]
          have eT : thAt I4 J2 jk jo jf js jr jw t = thAt I0 J0 jk jo jf js jr jw k := by rw [eI, eJ, th_put ht]; exact hs1 k (by omega) (by omega)
          have eO : ∀ q, q ≠ t → thAt I4 J2 jk jo jf js jr jw q = thAt I J jk jo jf js jr jw q := fun q hq_ => by rw [eI, eJ]; exact th_oth hq_
          have kp : thKeep (thAt I0 J0 jk jo jf js jr jw k) = true := by rw [← hs1 k (by omega) (by omega)]; exact thKeep_2 c28
          exact ih _ (by rw [← hm]; omega) (k + 1) (t + 1) I4 J2 rfl (by omega) (by rw [eI, eJ]; exact hfr.i.i.i.i.j.j) (by rw [eI, xu_c (by decide), xu_c (by decide), xu_c (by decide), xu_c (by decide)]; exact hmn) (by rw [thL_succ (n := t), thL_succ (n := k), List.filter_append, ← hs0, eT, thL_eq (fun q hq_ => eO q (by omega)), show List.filter thKeep [thAt I0 J0 jk jo jf js jr jw k] = [thAt I0 J0 jk jo jf js jr jw k] from List.filter_cons_of_pos kp]) (fun q h1 h2 => (eO q (by omega)).trans (hs1 q (by omega) h2))
        · skip
          refine x_goto 109 dX3_sweep_31 (by decide) ?_
          refine x_iinc 112 [(1, .ref (T.ad 2 0)), (1, .int (nI t)), (1, .int (nI (k + 1)))] dX3_sweep_109 rfl (by decide) rfl (xi_1 k) rfl ?_
          refine x_goto 4 dX3_sweep_112 (by decide) ?_
          exact ih _ (by rw [← hm]; omega) (k + 1) t I J rfl (by omega) (hfr) (hmn) (by rw [thL_succ, List.filter_append, ← hs0, show List.filter thKeep [thAt I0 J0 jk jo jf js jr jw k] = [] from List.filter_cons_of_neg (by rw [← hs1 k (by omega) (by omega)]; rw [thKeep_f c18 c28]; decide)]; simp) (fun q h1 h2 => hs1 q (by omega) h2)
set_option maxHeartbeats 4000000 in
set_option maxRecDepth 100000 in
theorem c0_X3_sweep {G : xG} {n : Nat} {Q : Outcome → xS → Prop} {I : xI} {J : xJ} {R Z : xR} {T : xT} {N B : Nat} (hk : KS Z T N B) {nt cap jk jo jf js jr jw : Nat} (ht : TH0 R T cap jk jo jf js jr jw) (hnt : nt ≤ cap) (hmn : I 2 0 0 = nI nt) (hn : 1 ≤ n) (hq : ∀ (I' : xI) (J' : xJ) (t : Nat), thFr I J I' J' → I' 2 0 0 = nI t → t ≤ nt → thL I' J' jk jo jf js jr jw t = (thL I J jk jo jf js jr jw nt).filter thKeep → Q (.returned none) (I', J', R, Z, T)) : xCall G mX3_sweep n [.ref (T.ad 2 0)] (I, J, R, Z, T) Q := by
  refine x_met (L0 := [(1, .ref (T.ad 2 0)), xo, xo]) (by decide +kernel) rfl ⟨Nat.le_of_ble_eq_true rfl, rfl⟩ ?_
  refine x_iconst (v := 0) 1 dX3_sweep_0 rfl rfl ?_
  refine x_istore_n 2 [(1, .ref (T.ad 2 0)), (1, .int 0), xo] dX3_sweep_1 rfl (by decide) rfl ?_
  refine x_iconst (v := 0) 3 dX3_sweep_2 rfl rfl ?_
  refine x_istore_n 4 [(1, .ref (T.ad 2 0)), (1, .int 0), (1, .int 0)] dX3_sweep_3 rfl (by decide) rfl ?_
  exact l_X3_sweep hk ht hnt hq 0 0 I J hn (by omega) thFr.rfl hmn rfl (fun _ _ _ => rfl)
theorem dX3_drop_0 : decode cX3_drop 0 = .ok (.iconst 0, 1) := by decide +kernel
theorem dX3_drop_1 : decode cX3_drop 1 = .ok (.istore_n 3, 1) := by decide +kernel
theorem dX3_drop_2 : decode cX3_drop 2 = .ok (.iload_n 3, 1) := by decide +kernel
theorem dX3_drop_3 : decode cX3_drop 3 = .ok (.aload_n 0, 1) := by decide +kernel
theorem dX3_drop_4 : decode cX3_drop 4 = .ok (.getfield 37, 3) := by decide +kernel
theorem dX3_drop_7 : decode cX3_drop 7 = .ok (.if_icmp .ge 46, 3) := by decide +kernel
theorem dX3_drop_10 : decode cX3_drop 10 = .ok (.aload_n 0, 1) := by decide +kernel
theorem dX3_drop_11 : decode cX3_drop 11 = .ok (.getfield 9, 3) := by decide +kernel
theorem dX3_drop_14 : decode cX3_drop 14 = .ok (.iload_n 3, 1) := by decide +kernel
theorem dX3_drop_15 : decode cX3_drop 15 = .ok (.iaload, 1) := by decide +kernel
theorem dX3_drop_16 : decode cX3_drop 16 = .ok (.iload_n 1, 1) := by decide +kernel
theorem dX3_drop_17 : decode cX3_drop 17 = .ok (.if_icmp .ne 30, 3) := by decide +kernel
theorem dX3_drop_20 : decode cX3_drop 20 = .ok (.aload_n 0, 1) := by decide +kernel
theorem dX3_drop_21 : decode cX3_drop 21 = .ok (.getfield 15, 3) := by decide +kernel
theorem dX3_drop_24 : decode cX3_drop 24 = .ok (.iload_n 3, 1) := by decide +kernel
theorem dX3_drop_25 : decode cX3_drop 25 = .ok (.iaload, 1) := by decide +kernel
theorem dX3_drop_26 : decode cX3_drop 26 = .ok (.iload_n 2, 1) := by decide +kernel
theorem dX3_drop_27 : decode cX3_drop 27 = .ok (.if_icmp .eq 6, 3) := by decide +kernel
theorem dX3_drop_30 : decode cX3_drop 30 = .ok (.goto 17, 3) := by decide +kernel
theorem dX3_drop_33 : decode cX3_drop 33 = .ok (.aload_n 0, 1) := by decide +kernel
theorem dX3_drop_34 : decode cX3_drop 34 = .ok (.getfield 25, 3) := by decide +kernel
theorem dX3_drop_37 : decode cX3_drop 37 = .ok (.iload_n 3, 1) := by decide +kernel
theorem dX3_drop_38 : decode cX3_drop 38 = .ok (.iconst 0, 1) := by decide +kernel
theorem dX3_drop_39 : decode cX3_drop 39 = .ok (.iastore, 1) := by decide +kernel
theorem dX3_drop_40 : decode cX3_drop 40 = .ok (.aload_n 0, 1) := by decide +kernel
theorem dX3_drop_41 : decode cX3_drop 41 = .ok (.getfield 28, 3) := by decide +kernel
theorem dX3_drop_44 : decode cX3_drop 44 = .ok (.iload_n 3, 1) := by decide +kernel
theorem dX3_drop_45 : decode cX3_drop 45 = .ok (.iconst (-1), 1) := by decide +kernel
theorem dX3_drop_46 : decode cX3_drop 46 = .ok (.iastore, 1) := by decide +kernel
theorem dX3_drop_47 : decode cX3_drop 47 = .ok (.iinc 3 1, 3) := by decide +kernel
theorem dX3_drop_50 : decode cX3_drop 50 = .ok (.goto (-48), 3) := by decide +kernel
theorem dX3_drop_53 : decode cX3_drop 53 = .ok (.return_, 1) := by decide +kernel
def thNo (t : xTh) : xTh := (t.1, t.2.1, t.2.2.1, t.2.2.2.1, 0, -1)
noncomputable def thDrop (g oa : Int32) (t : xTh) : xTh := @ite _ (t.1 = g ∧ t.2.1 = oa) (Classical.propDecidable _) (thNo t) t
theorem thDrop_y {g oa : Int32} {t : xTh} (h : t.1 = g ∧ t.2.1 = oa) : thDrop g oa t = thNo t := by unfold thDrop; rw [if_pos h]
theorem thDrop_n {g oa : Int32} {t : xTh} (h : ¬ (t.1 = g ∧ t.2.1 = oa)) : thDrop g oa t = t := by unfold thDrop; rw [if_neg h]
set_option maxHeartbeats 4000000 in
set_option maxRecDepth 100000 in
theorem l_X3_drop {G : xG} {n a b : Nat} {Q : Outcome → xS → Prop} {J : xJ} {Z : xR} {T : xT} {R : xR} {I0 : xI} {N B : Nat} (hk : KS Z T N B) {nt cap jk jo jf js jr jw : Nat} (ht : TH0 R T cap jk jo jf js jr jw) (hnt : nt ≤ cap) {g oa : Int32} (hq : ∀ (I' : xI), thFr I0 J I' J → I' 2 0 0 = nI nt → thL I' J jk jo jf js jr jw nt = (thL I0 J jk jo jf js jr jw nt).map (thDrop g oa) → Q (.returned none) (I', J, R, Z, T)) (k : Nat) (I : xI) (hn : 1 ≤ n) :
    (k ≤ nt) → (thFr I0 J I J) → (I 2 0 0 = nI nt) → (thL I J jk jo jf js jr jw k = (thL I0 J jk jo jf js jr jw k).map (thDrop g oa)) → (∀ q, k ≤ q → q < nt → thAt I J jk jo jf js jr jw q = thAt I0 J jk jo jf js jr jw q) → X G mX3_drop n a b Q (I, J, R, Z, T) 2 [(1, .ref (T.ad 2 0)), (1, .int g), (1, .int oa), (1, .int (nI k))] [] := by
  induction hm : nt - k using Nat.strongRecOn generalizing k I with
  | _ m_ ih =>
    intro h8 hfr hmn hs0 hs1
    have hc2 := ht.xc2
    refine x_iload_n 3 dX3_drop_2 rfl rfl ?_
    refine x_aload_n 4 dX3_drop_3 rfl rfl ?_
    refine x_geti 7 dX3_drop_4 rfl fl_X3_37 (hk.l2 (by omega)) ?_
    refine x_vi (w := nI nt) hmn ?_
    refine x_icmp_ge 53 10 dX3_drop_7 (by decide) rfl (fun c7 => ?_) (fun c7 => ?_)
    · skip
      have c7 : nt ≤ k := (nI_leI (a := nt) (b := k) (by omega) (by omega)).mp c7
      refine x_vreturn dX3_drop_53 rfl ?_
      have e : k = nt := by omega
      rw [e] at hs0
      exact hq _ hfr hmn hs0
    · skip
      have c7 : ¬ (nt ≤ k) := fun h => c7 ((nI_leI (a := nt) (b := k) (by omega) (by omega)).mpr h)
      refine x_aload_n 11 dX3_drop_10 rfl rfl ?_
      refine x_gets 14 dX3_drop_11 rfl fl_X3_9 (hk.l2 (by omega)) ht.xk ?_
      refine x_iload_n 15 dX3_drop_14 rfl rfl ?_
      refine x_iald 16 dX3_drop_15 rfl ar_31 ht.xlk (xb ht.xnk (by omega) (by omega)) ?_
      refine x_iload_n 17 dX3_drop_16 rfl rfl ?_
      refine x_icmp_ne 47 20 dX3_drop_17 (by decide) rfl (fun c17 => ?_) (fun c17 => ?_)
      · skip
        refine x_iinc 50 [(1, .ref (T.ad 2 0)), (1, .int g), (1, .int oa), (1, .int (nI (k + 1)))] dX3_drop_47 rfl (by decide) rfl (xi_1 k) rfl ?_
        refine x_goto 2 dX3_drop_50 (by decide) ?_
        exact ih _ (by rw [← hm]; omega) (k + 1) I rfl (by omega) (hfr) (hmn) (by rw [thL_succ, thL_succ, List.map_append, ← hs0, ← hs1 k (by omega) (by omega)]; exact congrArg _ (congrArg (fun z => [z]) (thDrop_n (fun h => c17 h.1)).symm)) (fun q h1 h2 => hs1 q (by omega) h2)
      · skip
        refine x_aload_n 21 dX3_drop_20 rfl rfl ?_
        refine x_gets 24 dX3_drop_21 rfl fl_X3_15 (hk.l2 (by omega)) ht.xo ?_
        refine x_iload_n 25 dX3_drop_24 rfl rfl ?_
        refine x_iald 26 dX3_drop_25 rfl ar_31 ht.xlo (xb ht.xno (by omega) (by omega)) ?_
        refine x_iload_n 27 dX3_drop_26 rfl rfl ?_
        refine x_icmp_eq 33 30 dX3_drop_27 (by decide) rfl (fun c27 => ?_) (fun c27 => ?_)
        · skip
          refine x_aload_n 34 dX3_drop_33 rfl rfl ?_
          refine x_gets 37 dX3_drop_34 rfl fl_X3_25 (hk.l2 (by omega)) ht.xr ?_
          refine x_iload_n 38 dX3_drop_37 rfl rfl ?_
          refine x_iconst (v := 0) 39 dX3_drop_38 rfl rfl ?_
          refine x_iast 40 dX3_drop_39 rfl ar_31 (by decide) (by decide) ht.xlr (xb ht.xnr (by omega) (by omega)) ?_
          refine x_nmI fun I1 hI1 => ?_
          refine x_aload_n 41 dX3_drop_40 rfl rfl ?_
          refine x_gets 44 dX3_drop_41 rfl fl_X3_28 (hk.l2 (by omega)) ht.xw ?_
          refine x_iload_n 45 dX3_drop_44 rfl rfl ?_
          refine x_iconst (v := -1) 46 dX3_drop_45 rfl rfl ?_
          refine x_iast 47 dX3_drop_46 rfl ar_31 (by decide) (by decide) ht.xlw (xb ht.xnw (by omega) (by omega)) ?_
          refine x_nmI fun I2 hI2 => ?_
          refine x_iinc 50 [(1, .ref (T.ad 2 0)), (1, .int g), (1, .int oa), (1, .int (nI (k + 1)))] dX3_drop_47 rfl (by decide) rfl (xi_1 k) rfl ?_
          refine x_goto 2 dX3_drop_50 (by decide) ?_
          have eT : thAt I2 J jk jo jf js jr jw k = thNo (thAt I J jk jo jf js jr jw k) := by rw [hI2, hI1, th_w ht, if_pos rfl]; unfold thNo thAt; rw [xu_i ht.xkr, xu_i ht.xor_, xu_eq]
          have eO : ∀ q, q ≠ k → thAt I2 J jk jo jf js jr jw q = thAt I J jk jo jf js jr jw q := fun q hq_ => by rw [hI2, hI1, th_w ht, if_neg hq_, th_r ht, if_neg hq_]
          exact ih _ (by rw [← hm]; omega) (k + 1) I2 rfl (by omega) (by rw [hI2, hI1]; exact hfr.i.i) (by rw [hI2, hI1, xu_c (by decide), xu_c (by decide)]; exact hmn) (by rw [thL_succ, thL_succ, List.map_append, ← hs0, ← hs1 k (by omega) (by omega), thL_eq (fun q hq_ => eO q (by omega)), eT]; exact congrArg _ (congrArg (fun z => [z]) (thDrop_y ⟨c17, c27⟩).symm)) (fun q h1 h2 => (eO q (by omega)).trans (hs1 q (by omega) h2))
        · skip
          refine x_goto 47 dX3_drop_30 (by decide) ?_
          refine x_iinc 50 [(1, .ref (T.ad 2 0)), (1, .int g), (1, .int oa), (1, .int (nI (k + 1)))] dX3_drop_47 rfl (by decide) rfl (xi_1 k) rfl ?_
          refine x_goto 2 dX3_drop_50 (by decide) ?_
          exact ih _ (by rw [← hm]; omega) (k + 1) I rfl (by omega) (hfr) (hmn) (by rw [thL_succ, thL_succ, List.map_append, ← hs0, ← hs1 k (by omega) (by omega)]; exact congrArg _ (congrArg (fun z => [z]) (thDrop_n (fun h => c27 h.2)).symm)) (fun q h1 h2 => hs1 q (by omega) h2)
set_option maxHeartbeats 4000000 in
set_option maxRecDepth 100000 in
theorem c0_X3_drop {G : xG} {n : Nat} {Q : Outcome → xS → Prop} {I : xI} {J : xJ} {R Z : xR} {T : xT} {N B : Nat} (hk : KS Z T N B) {nt cap jk jo jf js jr jw : Nat} (ht : TH0 R T cap jk jo jf js jr jw) (hnt : nt ≤ cap) (hmn : I 2 0 0 = nI nt) {g oa : Int32} (hn : 1 ≤ n) (hq : ∀ (I' : xI), thFr I J I' J → I' 2 0 0 = nI nt → thL I' J jk jo jf js jr jw nt = (thL I J jk jo jf js jr jw nt).map (thDrop g oa) → Q (.returned none) (I', J, R, Z, T)) : xCall G mX3_drop n [.ref (T.ad 2 0), .int g, .int oa] (I, J, R, Z, T) Q := by
  refine x_met (L0 := [(1, .ref (T.ad 2 0)), (1, .int g), (1, .int oa), xo]) (by decide +kernel) rfl ⟨Nat.le_of_ble_eq_true rfl, rfl⟩ ?_
  refine x_iconst (v := 0) 1 dX3_drop_0 rfl rfl ?_
  refine x_istore_n 2 [(1, .ref (T.ad 2 0)), (1, .int g), (1, .int oa), (1, .int 0)] dX3_drop_1 rfl (by decide) rfl ?_
  exact l_X3_drop hk ht hnt hq 0 I hn (by omega) thFr.rfl hmn rfl (fun _ _ _ => rfl)
theorem dX3_end_0 : decode cX3_end 0 = .ok (.iconst 0, 1) := by decide +kernel
theorem dX3_end_1 : decode cX3_end 1 = .ok (.istore_n 2, 1) := by decide +kernel
theorem dX3_end_2 : decode cX3_end 2 = .ok (.iload_n 2, 1) := by decide +kernel
theorem dX3_end_3 : decode cX3_end 3 = .ok (.aload_n 0, 1) := by decide +kernel
theorem dX3_end_4 : decode cX3_end 4 = .ok (.getfield 37, 3) := by decide +kernel
theorem dX3_end_7 : decode cX3_end 7 = .ok (.if_icmp .ge 40, 3) := by decide +kernel
theorem dX3_end_10 : decode cX3_end 10 = .ok (.aload_n 0, 1) := by decide +kernel
theorem dX3_end_11 : decode cX3_end 11 = .ok (.getfield 25, 3) := by decide +kernel
theorem dX3_end_14 : decode cX3_end 14 = .ok (.iload_n 2, 1) := by decide +kernel
theorem dX3_end_15 : decode cX3_end 15 = .ok (.dup2, 1) := by decide +kernel
theorem dX3_end_16 : decode cX3_end 16 = .ok (.iaload, 1) := by decide +kernel
theorem dX3_end_17 : decode cX3_end 17 = .ok (.iconst 1, 1) := by decide +kernel
theorem dX3_end_18 : decode cX3_end 18 = .ok (.iload_n 1, 1) := by decide +kernel
theorem dX3_end_19 : decode cX3_end 19 = .ok (.ishl, 1) := by decide +kernel
theorem dX3_end_20 : decode cX3_end 20 = .ok (.iconst (-1), 1) := by decide +kernel
theorem dX3_end_21 : decode cX3_end 21 = .ok (.ixor, 1) := by decide +kernel
theorem dX3_end_22 : decode cX3_end 22 = .ok (.iand, 1) := by decide +kernel
theorem dX3_end_23 : decode cX3_end 23 = .ok (.iastore, 1) := by decide +kernel
theorem dX3_end_24 : decode cX3_end 24 = .ok (.aload_n 0, 1) := by decide +kernel
theorem dX3_end_25 : decode cX3_end 25 = .ok (.getfield 28, 3) := by decide +kernel
theorem dX3_end_28 : decode cX3_end 28 = .ok (.iload_n 2, 1) := by decide +kernel
theorem dX3_end_29 : decode cX3_end 29 = .ok (.iaload, 1) := by decide +kernel
theorem dX3_end_30 : decode cX3_end 30 = .ok (.iload_n 1, 1) := by decide +kernel
theorem dX3_end_31 : decode cX3_end 31 = .ok (.if_icmp .ne 10, 3) := by decide +kernel
theorem dX3_end_34 : decode cX3_end 34 = .ok (.aload_n 0, 1) := by decide +kernel
theorem dX3_end_35 : decode cX3_end 35 = .ok (.getfield 28, 3) := by decide +kernel
theorem dX3_end_38 : decode cX3_end 38 = .ok (.iload_n 2, 1) := by decide +kernel
theorem dX3_end_39 : decode cX3_end 39 = .ok (.iconst (-1), 1) := by decide +kernel
theorem dX3_end_40 : decode cX3_end 40 = .ok (.iastore, 1) := by decide +kernel
theorem dX3_end_41 : decode cX3_end 41 = .ok (.iinc 2 1, 3) := by decide +kernel
theorem dX3_end_44 : decode cX3_end 44 = .ok (.goto (-42), 3) := by decide +kernel
theorem dX3_end_47 : decode cX3_end 47 = .ok (.aload_n 0, 1) := by decide +kernel
theorem dX3_end_48 : decode cX3_end 48 = .ok (.invokevirtual 52, 3) := by decide +kernel
theorem dX3_end_51 : decode cX3_end 51 = .ok (.return_, 1) := by decide +kernel
def thEnd1 (w : Int32) (t : xTh) : xTh := (t.1, t.2.1, t.2.2.1, t.2.2.2.1, t.2.2.2.2.1 &&& (((1 : Int32) <<< (w &&& 31)) ^^^ (-1)), if t.2.2.2.2.2 = w then -1 else t.2.2.2.2.2)
set_option maxHeartbeats 4000000 in
set_option maxRecDepth 100000 in
theorem l_X3_end {G : xG} {n a b : Nat} {Q : Outcome → xS → Prop} {J : xJ} {Z : xR} {T : xT} {R : xR} {I0 : xI} {N B : Nat} (hk : KS Z T N B) {nt cap jk jo jf js jr jw : Nat} (ht : TH0 R T cap jk jo jf js jr jw) (hnt : nt ≤ cap) {w : Int32} (hq : ∀ (I' : xI) (J' : xJ) (t : Nat), thFr I0 J I' J' → I' 2 0 0 = nI t → t ≤ nt → thL I' J' jk jo jf js jr jw t = ((thL I0 J jk jo jf js jr jw nt).map (thEnd1 w)).filter thKeep → Q (.returned none) (I', J', R, Z, T)) (k : Nat) (I : xI) (hn : 2 ≤ n) :
    (k ≤ nt) → (thFr I0 J I J) → (I 2 0 0 = nI nt) → (thL I J jk jo jf js jr jw k = (thL I0 J jk jo jf js jr jw k).map (thEnd1 w)) → (∀ q, k ≤ q → q < nt → thAt I J jk jo jf js jr jw q = thAt I0 J jk jo jf js jr jw q) → X G mX3_end n a b Q (I, J, R, Z, T) 2 [(1, .ref (T.ad 2 0)), (1, .int w), (1, .int (nI k))] [] := by
  induction hm : nt - k using Nat.strongRecOn generalizing k I with
  | _ m_ ih =>
    intro h8 hfr hmn hs0 hs1
    have hc2 := ht.xc2
    refine x_iload_n 3 dX3_end_2 rfl rfl ?_
    refine x_aload_n 4 dX3_end_3 rfl rfl ?_
    refine x_geti 7 dX3_end_4 rfl fl_X3_37 (hk.l2 (by omega)) ?_
    refine x_vi (w := nI nt) hmn ?_
    refine x_icmp_ge 47 10 dX3_end_7 (by decide) rfl (fun c7 => ?_) (fun c7 => ?_)
    · skip
      have c7 : nt ≤ k := (nI_leI (a := nt) (b := k) (by omega) (by omega)).mp c7
      refine x_aload_n 48 dX3_end_47 rfl rfl ?_
      refine x_callV (as := []) (rest := []) (i := 0) (n' := n - 1) 51 dX3_end_48 rfl mv_X3_52 rfl rfl (hk.l2 (by omega)) (xnh rfl) (by omega) (xst (Nat.le_of_ble_eq_true rfl)) (c0_X3_sweep hk ht hnt hmn (by omega) ?_)
      · skip
        intro I9 J9 t9 g1 g2 g3 g4
        change X _ _ _ _ _ _ _ _ _ _
        refine x_vreturn dX3_end_51 rfl ?_
        have e : k = nt := by omega
        rw [e] at hs0
        exact hq _ _ t9 (hfr.trans g1) g2 g3 (by rw [g4, hs0])
    · skip
      have c7 : ¬ (nt ≤ k) := fun h => c7 ((nI_leI (a := nt) (b := k) (by omega) (by omega)).mpr h)
      refine x_aload_n 11 dX3_end_10 rfl rfl ?_
      refine x_gets 14 dX3_end_11 rfl fl_X3_25 (hk.l2 (by omega)) ht.xr ?_
      refine x_iload_n 15 dX3_end_14 rfl rfl ?_
      refine x_dup2 16 dX3_end_15 rfl rfl rfl ?_
      refine x_iald 17 dX3_end_16 rfl ar_31 ht.xlr (xb ht.xnr (by omega) (by omega)) ?_
      refine x_iconst (v := 1) 18 dX3_end_17 rfl rfl ?_
      refine x_iload_n 19 dX3_end_18 rfl rfl ?_
      refine x_ishl 20 dX3_end_19 rfl ?_
      refine x_iconst (v := -1) 21 dX3_end_20 rfl rfl ?_
      refine x_ixor 22 dX3_end_21 rfl ?_
      refine x_iand 23 dX3_end_22 rfl ?_
      refine x_iast 24 dX3_end_23 rfl ar_31 (by decide) (by decide) ht.xlr (xb ht.xnr (by omega) (by omega)) ?_
      refine x_nmI fun I1 hI1 => ?_
      refine x_aload_n 25 dX3_end_24 rfl rfl ?_
      refine x_gets 28 dX3_end_25 rfl fl_X3_28 (hk.l2 (by omega)) ht.xw ?_
      refine x_iload_n 29 dX3_end_28 rfl rfl ?_
      refine x_iald 30 dX3_end_29 rfl ar_31 ht.xlw (xb ht.xnw (by omega) (by omega)) ?_
      refine x_vi (w := I 31 jw k) (by rw [hI1, xu_i (fun e => ht.xrw_ e.symm)]) ?_
      refine x_iload_n 31 dX3_end_30 rfl rfl ?_
      refine x_icmp_ne 41 34 dX3_end_31 (by decide) rfl (fun c31 => ?_) (fun c31 => ?_)
      · skip
        refine x_iinc 44 [(1, .ref (T.ad 2 0)), (1, .int w), (1, .int (nI (k + 1)))] dX3_end_41 rfl (by decide) rfl (xi_1 k) rfl ?_
        refine x_goto 2 dX3_end_44 (by decide) ?_
        have eT : thAt I1 J jk jo jf js jr jw k = thEnd1 w (thAt I J jk jo jf js jr jw k) := by rw [hI1, th_r ht, if_pos rfl]; unfold thEnd1 thAt; rw [if_neg c31]
        have eO : ∀ q, q ≠ k → thAt I1 J jk jo jf js jr jw q = thAt I J jk jo jf js jr jw q := fun q hq_ => by rw [hI1, th_r ht, if_neg hq_]
        exact ih _ (by rw [← hm]; omega) (k + 1) I1 rfl (by omega) (by rw [hI1]; exact hfr.i) (by rw [hI1, xu_c (by decide)]; exact hmn) (by rw [thL_succ, thL_succ, List.map_append, ← hs0, ← hs1 k (by omega) (by omega), thL_eq (fun q hq_ => eO q (by omega)), eT]; rfl) (fun q h1 h2 => (eO q (by omega)).trans (hs1 q (by omega) h2))
      · skip
        refine x_aload_n 35 dX3_end_34 rfl rfl ?_
        refine x_gets 38 dX3_end_35 rfl fl_X3_28 (hk.l2 (by omega)) ht.xw ?_
        refine x_iload_n 39 dX3_end_38 rfl rfl ?_
        refine x_iconst (v := -1) 40 dX3_end_39 rfl rfl ?_
        refine x_iast 41 dX3_end_40 rfl ar_31 (by decide) (by decide) ht.xlw (xb ht.xnw (by omega) (by omega)) ?_
        refine x_nmI fun I2 hI2 => ?_
        refine x_iinc 44 [(1, .ref (T.ad 2 0)), (1, .int w), (1, .int (nI (k + 1)))] dX3_end_41 rfl (by decide) rfl (xi_1 k) rfl ?_
        refine x_goto 2 dX3_end_44 (by decide) ?_
        have eT : thAt I2 J jk jo jf js jr jw k = thEnd1 w (thAt I J jk jo jf js jr jw k) := by rw [hI2, hI1, th_w ht, if_pos rfl]; unfold thEnd1 thAt; rw [xu_i ht.xkr, xu_i ht.xor_, xu_eq, if_pos c31]
        have eO : ∀ q, q ≠ k → thAt I2 J jk jo jf js jr jw q = thAt I J jk jo jf js jr jw q := fun q hq_ => by rw [hI2, hI1, th_w ht, if_neg hq_, th_r ht, if_neg hq_]
        exact ih _ (by rw [← hm]; omega) (k + 1) I2 rfl (by omega) (by rw [hI2, hI1]; exact hfr.i.i) (by rw [hI2, hI1, xu_c (by decide), xu_c (by decide)]; exact hmn) (by rw [thL_succ, thL_succ, List.map_append, ← hs0, ← hs1 k (by omega) (by omega), thL_eq (fun q hq_ => eO q (by omega)), eT]; rfl) (fun q h1 h2 => (eO q (by omega)).trans (hs1 q (by omega) h2))
set_option maxHeartbeats 4000000 in
set_option maxRecDepth 100000 in
theorem c0_X3_end {G : xG} {n : Nat} {Q : Outcome → xS → Prop} {I : xI} {J : xJ} {R Z : xR} {T : xT} {N B : Nat} (hk : KS Z T N B) {nt cap jk jo jf js jr jw : Nat} (ht : TH0 R T cap jk jo jf js jr jw) (hnt : nt ≤ cap) (hmn : I 2 0 0 = nI nt) {w : Int32} (hn : 2 ≤ n) (hq : ∀ (I' : xI) (J' : xJ) (t : Nat), thFr I J I' J' → I' 2 0 0 = nI t → t ≤ nt → thL I' J' jk jo jf js jr jw t = ((thL I J jk jo jf js jr jw nt).map (thEnd1 w)).filter thKeep → Q (.returned none) (I', J', R, Z, T)) : xCall G mX3_end n [.ref (T.ad 2 0), .int w] (I, J, R, Z, T) Q := by
  refine x_met (L0 := [(1, .ref (T.ad 2 0)), (1, .int w), xo]) (by decide +kernel) rfl ⟨Nat.le_of_ble_eq_true rfl, rfl⟩ ?_
  refine x_iconst (v := 0) 1 dX3_end_0 rfl rfl ?_
  refine x_istore_n 2 [(1, .ref (T.ad 2 0)), (1, .int w), (1, .int 0)] dX3_end_1 rfl (by decide) rfl ?_
  exact l_X3_end hk ht hnt hq 0 I hn (by omega) thFr.rfl hmn rfl (fun _ _ _ => rfl)
