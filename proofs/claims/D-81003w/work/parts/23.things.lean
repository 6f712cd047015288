set_option maxRecDepth 100000
/-! Things: class 2; its rows in the pools 31, 32 -/
abbrev xTh : Type := Int32 × Int32 × Int64 × Int64 × Int32 × Int32
def thAt (I : xI) (J : xJ) (jk jo jf js jr jw k : Nat) : xTh := (I 31 jk k, I 31 jo k, J 32 jf k, J 32 js k, I 31 jr k, I 31 jw k)
/-- nt things, room for cap, rows by their places in the pools -/
def TH0 (R : xR) (T : xT) (cap jk jo jf js jr jw : Nat) : Prop :=
  R 2 0 1 = some jk ∧ R 2 0 2 = some jo ∧ R 2 0 3 = some jf ∧ R 2 0 4 = some js ∧ R 2 0 5 = some jr ∧ R 2 0 6 = some jw ∧
  T.lv 31 jk ∧ T.lv 31 jo ∧ T.lv 32 jf ∧ T.lv 32 js ∧ T.lv 31 jr ∧ T.lv 31 jw ∧
  T.len 31 jk = cap ∧ T.len 31 jo = cap ∧ T.len 32 jf = cap ∧ T.len 32 js = cap ∧ T.len 31 jr = cap ∧ T.len 31 jw = cap ∧
  jk ≠ jo ∧ jk ≠ jr ∧ jk ≠ jw ∧ jo ≠ jr ∧ jo ≠ jw ∧ jr ≠ jw ∧ jf ≠ js ∧ 64 ≤ cap ∧ cap < 100000
theorem TH0.xk {R : xR} {T : xT} {cap jk jo jf js jr jw : Nat} (h : TH0 R T cap jk jo jf js jr jw) : R 2 0 1 = some jk := h.1
theorem TH0.xo {R : xR} {T : xT} {cap jk jo jf js jr jw : Nat} (h : TH0 R T cap jk jo jf js jr jw) : R 2 0 2 = some jo := h.2.1
theorem TH0.xf {R : xR} {T : xT} {cap jk jo jf js jr jw : Nat} (h : TH0 R T cap jk jo jf js jr jw) : R 2 0 3 = some jf := h.2.2.1
theorem TH0.xs {R : xR} {T : xT} {cap jk jo jf js jr jw : Nat} (h : TH0 R T cap jk jo jf js jr jw) : R 2 0 4 = some js := h.2.2.2.1
theorem TH0.xr {R : xR} {T : xT} {cap jk jo jf js jr jw : Nat} (h : TH0 R T cap jk jo jf js jr jw) : R 2 0 5 = some jr := h.2.2.2.2.1
theorem TH0.xw {R : xR} {T : xT} {cap jk jo jf js jr jw : Nat} (h : TH0 R T cap jk jo jf js jr jw) : R 2 0 6 = some jw := h.2.2.2.2.2.1
theorem TH0.xlk {R : xR} {T : xT} {cap jk jo jf js jr jw : Nat} (h : TH0 R T cap jk jo jf js jr jw) : T.lv 31 jk := h.2.2.2.2.2.2.1
theorem TH0.xlo {R : xR} {T : xT} {cap jk jo jf js jr jw : Nat} (h : TH0 R T cap jk jo jf js jr jw) : T.lv 31 jo := h.2.2.2.2.2.2.2.1
theorem TH0.xlf {R : xR} {T : xT} {cap jk jo jf js jr jw : Nat} (h : TH0 R T cap jk jo jf js jr jw) : T.lv 32 jf := h.2.2.2.2.2.2.2.2.1
theorem TH0.xls {R : xR} {T : xT} {cap jk jo jf js jr jw : Nat} (h : TH0 R T cap jk jo jf js jr jw) : T.lv 32 js := h.2.2.2.2.2.2.2.2.2.1
theorem TH0.xlr {R : xR} {T : xT} {cap jk jo jf js jr jw : Nat} (h : TH0 R T cap jk jo jf js jr jw) : T.lv 31 jr := h.2.2.2.2.2.2.2.2.2.2.1
theorem TH0.xlw {R : xR} {T : xT} {cap jk jo jf js jr jw : Nat} (h : TH0 R T cap jk jo jf js jr jw) : T.lv 31 jw := h.2.2.2.2.2.2.2.2.2.2.2.1
theorem TH0.xnk {R : xR} {T : xT} {cap jk jo jf js jr jw : Nat} (h : TH0 R T cap jk jo jf js jr jw) : T.len 31 jk = cap := h.2.2.2.2.2.2.2.2.2.2.2.2.1
theorem TH0.xno {R : xR} {T : xT} {cap jk jo jf js jr jw : Nat} (h : TH0 R T cap jk jo jf js jr jw) : T.len 31 jo = cap := h.2.2.2.2.2.2.2.2.2.2.2.2.2.1
theorem TH0.xnf {R : xR} {T : xT} {cap jk jo jf js jr jw : Nat} (h : TH0 R T cap jk jo jf js jr jw) : T.len 32 jf = cap := h.2.2.2.2.2.2.2.2.2.2.2.2.2.2.1
theorem TH0.xns {R : xR} {T : xT} {cap jk jo jf js jr jw : Nat} (h : TH0 R T cap jk jo jf js jr jw) : T.len 32 js = cap := h.2.2.2.2.2.2.2.2.2.2.2.2.2.2.2.1
theorem TH0.xnr {R : xR} {T : xT} {cap jk jo jf js jr jw : Nat} (h : TH0 R T cap jk jo jf js jr jw) : T.len 31 jr = cap := h.2.2.2.2.2.2.2.2.2.2.2.2.2.2.2.2.1
theorem TH0.xnw {R : xR} {T : xT} {cap jk jo jf js jr jw : Nat} (h : TH0 R T cap jk jo jf js jr jw) : T.len 31 jw = cap := h.2.2.2.2.2.2.2.2.2.2.2.2.2.2.2.2.2.1
theorem TH0.xko {R : xR} {T : xT} {cap jk jo jf js jr jw : Nat} (h : TH0 R T cap jk jo jf js jr jw) : jk ≠ jo := h.2.2.2.2.2.2.2.2.2.2.2.2.2.2.2.2.2.2.1
theorem TH0.xkr {R : xR} {T : xT} {cap jk jo jf js jr jw : Nat} (h : TH0 R T cap jk jo jf js jr jw) : jk ≠ jr := h.2.2.2.2.2.2.2.2.2.2.2.2.2.2.2.2.2.2.2.1
theorem TH0.xkw {R : xR} {T : xT} {cap jk jo jf js jr jw : Nat} (h : TH0 R T cap jk jo jf js jr jw) : jk ≠ jw := h.2.2.2.2.2.2.2.2.2.2.2.2.2.2.2.2.2.2.2.2.1
theorem TH0.xor_ {R : xR} {T : xT} {cap jk jo jf js jr jw : Nat} (h : TH0 R T cap jk jo jf js jr jw) : jo ≠ jr := h.2.2.2.2.2.2.2.2.2.2.2.2.2.2.2.2.2.2.2.2.2.1
theorem TH0.xow {R : xR} {T : xT} {cap jk jo jf js jr jw : Nat} (h : TH0 R T cap jk jo jf js jr jw) : jo ≠ jw := h.2.2.2.2.2.2.2.2.2.2.2.2.2.2.2.2.2.2.2.2.2.2.1
theorem TH0.xrw_ {R : xR} {T : xT} {cap jk jo jf js jr jw : Nat} (h : TH0 R T cap jk jo jf js jr jw) : jr ≠ jw := h.2.2.2.2.2.2.2.2.2.2.2.2.2.2.2.2.2.2.2.2.2.2.2.1
theorem TH0.xfs {R : xR} {T : xT} {cap jk jo jf js jr jw : Nat} (h : TH0 R T cap jk jo jf js jr jw) : jf ≠ js := h.2.2.2.2.2.2.2.2.2.2.2.2.2.2.2.2.2.2.2.2.2.2.2.2.1
theorem TH0.xc1 {R : xR} {T : xT} {cap jk jo jf js jr jw : Nat} (h : TH0 R T cap jk jo jf js jr jw) : 64 ≤ cap := h.2.2.2.2.2.2.2.2.2.2.2.2.2.2.2.2.2.2.2.2.2.2.2.2.2.1
theorem TH0.xc2 {R : xR} {T : xT} {cap jk jo jf js jr jw : Nat} (h : TH0 R T cap jk jo jf js jr jw) : cap < 100000 := h.2.2.2.2.2.2.2.2.2.2.2.2.2.2.2.2.2.2.2.2.2.2.2.2.2.2
def TH1 (I : xI) (nt : Nat) : Prop := I 2 0 0 = nI nt
/-- the things, as a list -/
def ThR (I : xI) (J : xJ) (R : xR) (T : xT) (th : List xTh) : Prop :=
  ∃ cap jk jo jf js jr jw : Nat, TH0 R T cap jk jo jf js jr jw ∧ I 2 0 0 = nI th.length ∧ th.length ≤ cap ∧ (∀ x, T.ad 31 x = x ∧ T.ad 32 x = x) ∧ ∀ k, k < th.length → th[k]? = some (thAt I J jk jo jf js jr jw k)
def thIs (t : xTh) (g a : Int32) (x y : Int64) : Prop := t.1 = g ∧ t.2.1 = a ∧ t.2.2.1 = x ∧ t.2.2.2.1 = y
theorem lg_cmp0 {x y : Int64} : lg_cmp x y = 0 ↔ x = y := by
  unfold lg_cmp
  by_cases h : x > y
  · rw [if_pos h]; exact ⟨fun e => absurd e (by decide), fun e => by rw [e] at h; exact absurd h (Int64.lt_irrefl)⟩
  · rw [if_neg h]
    by_cases h2 : x = y
    · rw [if_pos h2]; exact ⟨fun _ => h2, fun _ => rfl⟩
    · rw [if_neg h2]; exact ⟨fun e => absurd e (by decide), fun e => absurd e h2⟩
theorem dX3_is_0 : decode cX3_is 0 = .ok (.aload_n 0, 1) := by decide +kernel
theorem dX3_is_1 : decode cX3_is 1 = .ok (.getfield 9, 3) := by decide +kernel
theorem dX3_is_4 : decode cX3_is 4 = .ok (.iload_n 1, 1) := by decide +kernel
theorem dX3_is_5 : decode cX3_is 5 = .ok (.iaload, 1) := by decide +kernel
theorem dX3_is_6 : decode cX3_is 6 = .ok (.iload_n 2, 1) := by decide +kernel
theorem dX3_is_7 : decode cX3_is 7 = .ok (.if_icmp .ne 41, 3) := by decide +kernel
theorem dX3_is_10 : decode cX3_is 10 = .ok (.aload_n 0, 1) := by decide +kernel
theorem dX3_is_11 : decode cX3_is 11 = .ok (.getfield 15, 3) := by decide +kernel
theorem dX3_is_14 : decode cX3_is 14 = .ok (.iload_n 1, 1) := by decide +kernel
theorem dX3_is_15 : decode cX3_is 15 = .ok (.iaload, 1) := by decide +kernel
theorem dX3_is_16 : decode cX3_is 16 = .ok (.iload_n 3, 1) := by decide +kernel
theorem dX3_is_17 : decode cX3_is 17 = .ok (.if_icmp .ne 31, 3) := by decide +kernel
theorem dX3_is_20 : decode cX3_is 20 = .ok (.aload_n 0, 1) := by decide +kernel
theorem dX3_is_21 : decode cX3_is 21 = .ok (.getfield 18, 3) := by decide +kernel
theorem dX3_is_24 : decode cX3_is 24 = .ok (.iload_n 1, 1) := by decide +kernel
theorem dX3_is_25 : decode cX3_is 25 = .ok (.laload, 1) := by decide +kernel
theorem dX3_is_26 : decode cX3_is 26 = .ok (.lload 4, 2) := by decide +kernel
theorem dX3_is_28 : decode cX3_is 28 = .ok (.lcmp, 1) := by decide +kernel
theorem dX3_is_29 : decode cX3_is 29 = .ok (.ifCond .ne 19, 3) := by decide +kernel
theorem dX3_is_32 : decode cX3_is 32 = .ok (.aload_n 0, 1) := by decide +kernel
theorem dX3_is_33 : decode cX3_is 33 = .ok (.getfield 22, 3) := by decide +kernel
theorem dX3_is_36 : decode cX3_is 36 = .ok (.iload_n 1, 1) := by decide +kernel
theorem dX3_is_37 : decode cX3_is 37 = .ok (.laload, 1) := by decide +kernel
theorem dX3_is_38 : decode cX3_is 38 = .ok (.lload 6, 2) := by decide +kernel
theorem dX3_is_40 : decode cX3_is 40 = .ok (.lcmp, 1) := by decide +kernel
theorem dX3_is_41 : decode cX3_is 41 = .ok (.ifCond .ne 7, 3) := by decide +kernel
theorem dX3_is_44 : decode cX3_is 44 = .ok (.iconst 1, 1) := by decide +kernel
theorem dX3_is_45 : decode cX3_is 45 = .ok (.goto 4, 3) := by decide +kernel
theorem dX3_is_48 : decode cX3_is 48 = .ok (.iconst 0, 1) := by decide +kernel
theorem dX3_is_49 : decode cX3_is 49 = .ok (.ireturn, 1) := by decide +kernel
set_option maxHeartbeats 4000000 in
set_option maxRecDepth 100000 in
theorem c_X3_is {G : xG} {n : Nat} {Q : Outcome → xS → Prop} {I : xI} {J : xJ} {R Z : xR} {T : xT} {N B : Nat} (hk : KS Z T N B) {nt cap jk jo jf js jr jw : Nat} (ht : TH0 R T cap jk jo jf js jr jw) (hnt : nt ≤ cap) {k : Nat} {g oa : Int32} {x y : Int64} (hkn : k < nt) (hn : 1 ≤ n) (hq : Q (.returned (some (.int (b2i (thIs (thAt I J jk jo jf js jr jw k) g oa x y))))) (I, J, R, Z, T)) : xCall G mX3_is n [.ref (T.ad 2 0), .int (nI k), .int g, .int oa, .long x, .long y] (I, J, R, Z, T) Q := by
  refine x_met (L0 := [(1, .ref (T.ad 2 0)), (1, .int (nI k)), (1, .int g), (1, .int oa), (2, .long x), xo, (2, .long y), xo]) (by decide +kernel) rfl ⟨Nat.le_of_ble_eq_true rfl, rfl⟩ ?_
  have hc2 := ht.xc2
  refine x_aload_n 1 dX3_is_0 rfl rfl ?_
  refine x_gets 4 dX3_is_1 rfl fl_X3_9 (hk.l2 (by omega)) ht.xk ?_
  refine x_iload_n 5 dX3_is_4 rfl rfl ?_
  refine x_iald 6 dX3_is_5 rfl ar_31 ht.xlk (xb ht.xnk (by omega) (by omega)) ?_
  refine x_iload_n 7 dX3_is_6 rfl rfl ?_
  refine x_icmp_ne 48 10 dX3_is_7 (by decide) rfl (fun c7 => ?_) (fun c7 => ?_)
  · skip
    refine x_iconst (v := 0) 49 dX3_is_48 rfl rfl ?_
    refine x_zreturn dX3_is_49 rfl (Or.inl rfl) ?_
    exact xr0 (P := thIs (thAt I J jk jo jf js jr jw k) g oa x y) (by rintro ⟨h1, h2, h3, h4⟩; first | exact c7 h1 | exact c17 h2 | exact c29 (lg_cmp0.mpr h3) | exact c41 (lg_cmp0.mpr h4)) hq
  · skip
    refine x_aload_n 11 dX3_is_10 rfl rfl ?_
    refine x_gets 14 dX3_is_11 rfl fl_X3_15 (hk.l2 (by omega)) ht.xo ?_
    refine x_iload_n 15 dX3_is_14 rfl rfl ?_
    refine x_iald 16 dX3_is_15 rfl ar_31 ht.xlo (xb ht.xno (by omega) (by omega)) ?_
    refine x_iload_n 17 dX3_is_16 rfl rfl ?_
    refine x_icmp_ne 48 20 dX3_is_17 (by decide) rfl (fun c17 => ?_) (fun c17 => ?_)
    · skip
      refine x_iconst (v := 0) 49 dX3_is_48 rfl rfl ?_
      refine x_zreturn dX3_is_49 rfl (Or.inl rfl) ?_
      exact xr0 (P := thIs (thAt I J jk jo jf js jr jw k) g oa x y) (by rintro ⟨h1, h2, h3, h4⟩; first | exact c7 h1 | exact c17 h2 | exact c29 (lg_cmp0.mpr h3) | exact c41 (lg_cmp0.mpr h4)) hq
    · skip
      refine x_aload_n 21 dX3_is_20 rfl rfl ?_
      refine x_gets 24 dX3_is_21 rfl fl_X3_18 (hk.l2 (by omega)) ht.xf ?_
      refine x_iload_n 25 dX3_is_24 rfl rfl ?_
      refine x_lald 26 dX3_is_25 rfl ar_32 ht.xlf (xb ht.xnf (by omega) (by omega)) ?_
      refine x_lload 28 dX3_is_26 rfl rfl ?_
      refine x_lcmp 29 dX3_is_28 rfl ?_
      refine x_if_ne 48 32 dX3_is_29 (by decide) rfl (fun c29 => ?_) (fun c29 => ?_)
      · skip
        refine x_iconst (v := 0) 49 dX3_is_48 rfl rfl ?_
        refine x_zreturn dX3_is_49 rfl (Or.inl rfl) ?_
        exact xr0 (P := thIs (thAt I J jk jo jf js jr jw k) g oa x y) (by rintro ⟨h1, h2, h3, h4⟩; first | exact c7 h1 | exact c17 h2 | exact c29 (lg_cmp0.mpr h3) | exact c41 (lg_cmp0.mpr h4)) hq
      · skip
        refine x_aload_n 33 dX3_is_32 rfl rfl ?_
        refine x_gets 36 dX3_is_33 rfl fl_X3_22 (hk.l2 (by omega)) ht.xs ?_
        refine x_iload_n 37 dX3_is_36 rfl rfl ?_
        refine x_lald 38 dX3_is_37 rfl ar_32 ht.xls (xb ht.xns (by omega) (by omega)) ?_
        refine x_lload 40 dX3_is_38 rfl rfl ?_
        refine x_lcmp 41 dX3_is_40 rfl ?_
        refine x_if_ne 48 44 dX3_is_41 (by decide) rfl (fun c41 => ?_) (fun c41 => ?_)
        · skip
          refine x_iconst (v := 0) 49 dX3_is_48 rfl rfl ?_
          refine x_zreturn dX3_is_49 rfl (Or.inl rfl) ?_
          exact xr0 (P := thIs (thAt I J jk jo jf js jr jw k) g oa x y) (by rintro ⟨h1, h2, h3, h4⟩; first | exact c7 h1 | exact c17 h2 | exact c29 (lg_cmp0.mpr h3) | exact c41 (lg_cmp0.mpr h4)) hq
        · skip
          refine x_iconst (v := 1) 45 dX3_is_44 rfl rfl ?_
          refine x_goto 49 dX3_is_45 (by decide) ?_
          refine x_zreturn dX3_is_49 rfl (Or.inr rfl) ?_
          exact xr1 (P := thIs (thAt I J jk jo jf js jr jw k) g oa x y) (⟨c7, c17, lg_cmp0.mp c29, lg_cmp0.mp c41⟩) hq
def thTree (t : xTh) (w : Int32) : Prop := t.2.2.2.2.2 = w ∧ (t.1 ≤ 2 ∨ t.1 = 4)
theorem dX3_hasTree_0 : decode cX3_hasTree 0 = .ok (.iconst 0, 1) := by decide +kernel
theorem dX3_hasTree_1 : decode cX3_hasTree 1 = .ok (.istore_n 2, 1) := by decide +kernel
theorem dX3_hasTree_2 : decode cX3_hasTree 2 = .ok (.iload_n 2, 1) := by decide +kernel
theorem dX3_hasTree_3 : decode cX3_hasTree 3 = .ok (.aload_n 0, 1) := by decide +kernel
theorem dX3_hasTree_4 : decode cX3_hasTree 4 = .ok (.getfield 37, 3) := by decide +kernel
theorem dX3_hasTree_7 : decode cX3_hasTree 7 = .ok (.if_icmp .ge 41, 3) := by decide +kernel
theorem dX3_hasTree_10 : decode cX3_hasTree 10 = .ok (.aload_n 0, 1) := by decide +kernel
theorem dX3_hasTree_11 : decode cX3_hasTree 11 = .ok (.getfield 28, 3) := by decide +kernel
theorem dX3_hasTree_14 : decode cX3_hasTree 14 = .ok (.iload_n 2, 1) := by decide +kernel
theorem dX3_hasTree_15 : decode cX3_hasTree 15 = .ok (.iaload, 1) := by decide +kernel
theorem dX3_hasTree_16 : decode cX3_hasTree 16 = .ok (.iload_n 1, 1) := by decide +kernel
theorem dX3_hasTree_17 : decode cX3_hasTree 17 = .ok (.if_icmp .ne 25, 3) := by decide +kernel
theorem dX3_hasTree_20 : decode cX3_hasTree 20 = .ok (.aload_n 0, 1) := by decide +kernel
theorem dX3_hasTree_21 : decode cX3_hasTree 21 = .ok (.getfield 9, 3) := by decide +kernel
theorem dX3_hasTree_24 : decode cX3_hasTree 24 = .ok (.iload_n 2, 1) := by decide +kernel
theorem dX3_hasTree_25 : decode cX3_hasTree 25 = .ok (.iaload, 1) := by decide +kernel
theorem dX3_hasTree_26 : decode cX3_hasTree 26 = .ok (.iconst 2, 1) := by decide +kernel
theorem dX3_hasTree_27 : decode cX3_hasTree 27 = .ok (.if_icmp .le 13, 3) := by decide +kernel
theorem dX3_hasTree_30 : decode cX3_hasTree 30 = .ok (.aload_n 0, 1) := by decide +kernel
theorem dX3_hasTree_31 : decode cX3_hasTree 31 = .ok (.getfield 9, 3) := by decide +kernel
theorem dX3_hasTree_34 : decode cX3_hasTree 34 = .ok (.iload_n 2, 1) := by decide +kernel
theorem dX3_hasTree_35 : decode cX3_hasTree 35 = .ok (.iaload, 1) := by decide +kernel
theorem dX3_hasTree_36 : decode cX3_hasTree 36 = .ok (.iconst 4, 1) := by decide +kernel
theorem dX3_hasTree_37 : decode cX3_hasTree 37 = .ok (.if_icmp .ne 5, 3) := by decide +kernel
theorem dX3_hasTree_40 : decode cX3_hasTree 40 = .ok (.iconst 1, 1) := by decide +kernel
theorem dX3_hasTree_41 : decode cX3_hasTree 41 = .ok (.ireturn, 1) := by decide +kernel
theorem dX3_hasTree_42 : decode cX3_hasTree 42 = .ok (.iinc 2 1, 3) := by decide +kernel
theorem dX3_hasTree_45 : decode cX3_hasTree 45 = .ok (.goto (-43), 3) := by decide +kernel
theorem dX3_hasTree_48 : decode cX3_hasTree 48 = .ok (.iconst 0, 1) := by decide +kernel
theorem dX3_hasTree_49 : decode cX3_hasTree 49 = .ok (.ireturn, 1) := by decide +kernel
set_option maxHeartbeats 4000000 in
set_option maxRecDepth 100000 in
theorem l_X3_hasTree {G : xG} {n a b : Nat} {Q : Outcome → xS → Prop} {J : xJ} {Z : xR} {T : xT} {R : xR} {I : xI} {N B : Nat} (hk : KS Z T N B) {nt cap jk jo jf js jr jw : Nat} (ht : TH0 R T cap jk jo jf js jr jw) (hnt : nt ≤ cap) (hmn : I 2 0 0 = nI nt) {w : Int32} (hq : Q (.returned (some (.int (b2i (∃ k, k < nt ∧ thTree (thAt I J jk jo jf js jr jw k) w))))) (I, J, R, Z, T)) (k : Nat) (hn : 1 ≤ n) :
    (k ≤ nt) → (∀ q, q < k → ¬ thTree (thAt I J jk jo jf js jr jw q) w) → X G mX3_hasTree n a b Q (I, J, R, Z, T) 2 [(1, .ref (T.ad 2 0)), (1, .int w), (1, .int (nI k))] [] := by
  induction hm : nt - k using Nat.strongRecOn generalizing k with
  | _ m_ ih =>
    intro h8 hv
    have hc2 := ht.xc2
    refine x_iload_n 3 dX3_hasTree_2 rfl rfl ?_
    refine x_aload_n 4 dX3_hasTree_3 rfl rfl ?_
    refine x_geti 7 dX3_hasTree_4 rfl fl_X3_37 (hk.l2 (by omega)) ?_
    refine x_vi (w := nI nt) hmn ?_
    refine x_icmp_ge 48 10 dX3_hasTree_7 (by decide) rfl (fun c7 => ?_) (fun c7 => ?_)
    · skip
      have c7 : nt ≤ k := (nI_leI (a := nt) (b := k) (by omega) (by omega)).mp c7
      refine x_iconst (v := 0) 49 dX3_hasTree_48 rfl rfl ?_
      refine x_zreturn dX3_hasTree_49 rfl (Or.inl rfl) ?_
      exact xr0 (P := ∃ k, k < nt ∧ thTree (thAt I J jk jo jf js jr jw k) w) (fun ⟨q, h1, h2⟩ => hv q (by omega) h2) hq
    · skip
      have c7 : ¬ (nt ≤ k) := fun h => c7 ((nI_leI (a := nt) (b := k) (by omega) (by omega)).mpr h)
      refine x_aload_n 11 dX3_hasTree_10 rfl rfl ?_
      refine x_gets 14 dX3_hasTree_11 rfl fl_X3_28 (hk.l2 (by omega)) ht.xw ?_
      refine x_iload_n 15 dX3_hasTree_14 rfl rfl ?_
      refine x_iald 16 dX3_hasTree_15 rfl ar_31 ht.xlw (xb ht.xnw (by omega) (by omega)) ?_
      refine x_iload_n 17 dX3_hasTree_16 rfl rfl ?_
      refine x_icmp_ne 42 20 dX3_hasTree_17 (by decide) rfl (fun c17 => ?_) (fun c17 => ?_)
      · skip
        refine x_iinc 45 [(1, .ref (T.ad 2 0)), (1, .int w), (1, .int (nI (k + 1)))] dX3_hasTree_42 rfl (by decide) rfl (xi_1 k) rfl ?_
        refine x_goto 2 dX3_hasTree_45 (by decide) ?_
        exact ih _ (by rw [← hm]; omega) (k + 1) rfl (by omega) (lt_succ_of (P := fun q => ¬ thTree (thAt I J jk jo jf js jr jw q) w) hv (by rintro ⟨h1, h2 | h2⟩ <;> first | exact c17 h1 | exact c27 h2 | exact c37 h2))
      · skip
        refine x_aload_n 21 dX3_hasTree_20 rfl rfl ?_
        refine x_gets 24 dX3_hasTree_21 rfl fl_X3_9 (hk.l2 (by omega)) ht.xk ?_
        refine x_iload_n 25 dX3_hasTree_24 rfl rfl ?_
        refine x_iald 26 dX3_hasTree_25 rfl ar_31 ht.xlk (xb ht.xnk (by omega) (by omega)) ?_
        refine x_iconst (v := 2) 27 dX3_hasTree_26 rfl rfl ?_
        refine x_icmp_le 40 30 dX3_hasTree_27 (by decide) rfl (fun c27 => ?_) (fun c27 => ?_)
        · skip
          refine x_iconst (v := 1) 41 dX3_hasTree_40 rfl rfl ?_
          refine x_zreturn dX3_hasTree_41 rfl (Or.inr rfl) ?_
          exact xr1 (P := ∃ k, k < nt ∧ thTree (thAt I J jk jo jf js jr jw k) w) (⟨k, by omega, c17, by first | exact Or.inl c27 | exact Or.inr c37⟩) hq
        · skip
          refine x_aload_n 31 dX3_hasTree_30 rfl rfl ?_
          refine x_gets 34 dX3_hasTree_31 rfl fl_X3_9 (hk.l2 (by omega)) ht.xk ?_
          refine x_iload_n 35 dX3_hasTree_34 rfl rfl ?_
          refine x_iald 36 dX3_hasTree_35 rfl ar_31 ht.xlk (xb ht.xnk (by omega) (by omega)) ?_
          refine x_iconst (v := 4) 37 dX3_hasTree_36 rfl rfl ?_
          refine x_icmp_ne 42 40 dX3_hasTree_37 (by decide) rfl (fun c37 => ?_) (fun c37 => ?_)
          · skip
            refine x_iinc 45 [(1, .ref (T.ad 2 0)), (1, .int w), (1, .int (nI (k + 1)))] dX3_hasTree_42 rfl (by decide) rfl (xi_1 k) rfl ?_
            refine x_goto 2 dX3_hasTree_45 (by decide) ?_
            exact ih _ (by rw [← hm]; omega) (k + 1) rfl (by omega) (lt_succ_of (P := fun q => ¬ thTree (thAt I J jk jo jf js jr jw q) w) hv (by rintro ⟨h1, h2 | h2⟩ <;> first | exact c17 h1 | exact c27 h2 | exact c37 h2))
          · skip
            refine x_iconst (v := 1) 41 dX3_hasTree_40 rfl rfl ?_
            refine x_zreturn dX3_hasTree_41 rfl (Or.inr rfl) ?_
            exact xr1 (P := ∃ k, k < nt ∧ thTree (thAt I J jk jo jf js jr jw k) w) (⟨k, by omega, c17, by first | exact Or.inl c27 | exact Or.inr c37⟩) hq
set_option maxHeartbeats 4000000 in
set_option maxRecDepth 100000 in
theorem c0_X3_hasTree {G : xG} {n : Nat} {Q : Outcome → xS → Prop} {I : xI} {J : xJ} {R Z : xR} {T : xT} {N B : Nat} (hk : KS Z T N B) {nt cap jk jo jf js jr jw : Nat} (ht : TH0 R T cap jk jo jf js jr jw) (hnt : nt ≤ cap) (hmn : I 2 0 0 = nI nt) {w : Int32} (hn : 1 ≤ n) (hq : Q (.returned (some (.int (b2i (∃ k, k < nt ∧ thTree (thAt I J jk jo jf js jr jw k) w))))) (I, J, R, Z, T)) : xCall G mX3_hasTree n [.ref (T.ad 2 0), .int w] (I, J, R, Z, T) Q := by
  refine x_met (L0 := [(1, .ref (T.ad 2 0)), (1, .int w), xo]) (by decide +kernel) rfl ⟨Nat.le_of_ble_eq_true rfl, rfl⟩ ?_
  refine x_iconst (v := 0) 1 dX3_hasTree_0 rfl rfl ?_
  refine x_istore_n 2 [(1, .ref (T.ad 2 0)), (1, .int w), (1, .int 0)] dX3_hasTree_1 rfl (by decide) rfl ?_
  exact l_X3_hasTree hk ht hnt hmn hq 0 hn (by omega) (fun q hq_ => absurd hq_ (by omega))
/-- whether an access (g a x y, writing if w ≠ 0) meets the thing t by its writer, by its readers -/
def thMw (t : xTh) (g a : Int32) (x y : Int64) (w : Int32) : Prop := (thIs t g a x y ∨ (g = 3 ∧ w = 0 ∧ t.1 = 2 ∧ t.2.1 = a)) ∧ ¬ t.2.2.2.2.2 = -1
def thMr (t : xTh) (g a : Int32) (x y : Int64) (w : Int32) : Prop := (thIs t g a x y ∧ ¬ w = 0) ∨ (g = 2 ∧ ¬ w = 0 ∧ t.1 = 3 ∧ t.2.1 = a)
noncomputable def thM1 (t : xTh) (g a : Int32) (x y : Int64) (w m : Int32) : Int32 :=
  let m1 := @ite _ (thMw t g a x y w) (Classical.propDecidable _) (m ||| ((1 : Int32) <<< (t.2.2.2.2.2 &&& 31))) m
  @ite _ (thMr t g a x y w) (Classical.propDecidable _) (m1 ||| t.2.2.2.2.1) m1
noncomputable def thMet (f : Nat → xTh) (g a : Int32) (x y : Int64) (w : Int32) : Nat → Int32
  | 0 => 0
  | k + 1 => thM1 (f k) g a x y w (thMet f g a x y w k)
def thBut (m o : Int32) : Int32 := if o = -1 then m else m &&& (((1 : Int32) <<< (o &&& 31)) ^^^ (-1))
theorem thM1_00 {t : xTh} {g a : Int32} {x y : Int64} {w m : Int32} (h1 : ¬ thMw t g a x y w) (h2 : ¬ thMr t g a x y w) : thM1 t g a x y w m = m := by unfold thM1; rw [if_neg h2, if_neg h1]
theorem thM1_10 {t : xTh} {g a : Int32} {x y : Int64} {w m : Int32} (h1 : thMw t g a x y w) (h2 : ¬ thMr t g a x y w) : thM1 t g a x y w m = m ||| ((1 : Int32) <<< (t.2.2.2.2.2 &&& 31)) := by unfold thM1; rw [if_neg h2, if_pos h1]
theorem thM1_01 {t : xTh} {g a : Int32} {x y : Int64} {w m : Int32} (h1 : ¬ thMw t g a x y w) (h2 : thMr t g a x y w) : thM1 t g a x y w m = m ||| t.2.2.2.2.1 := by unfold thM1; rw [if_pos h2, if_neg h1]
theorem thM1_11 {t : xTh} {g a : Int32} {x y : Int64} {w m : Int32} (h1 : thMw t g a x y w) (h2 : thMr t g a x y w) : thM1 t g a x y w m = (m ||| ((1 : Int32) <<< (t.2.2.2.2.2 &&& 31))) ||| t.2.2.2.2.1 := by unfold thM1; rw [if_pos h2, if_pos h1]
theorem dX3_met_0 : decode cX3_met 0 = .ok (.iconst 0, 1) := by decide +kernel
theorem dX3_met_1 : decode cX3_met 1 = .ok (.istore 9, 2) := by decide +kernel
theorem dX3_met_3 : decode cX3_met 3 = .ok (.iconst 0, 1) := by decide +kernel
theorem dX3_met_4 : decode cX3_met 4 = .ok (.istore 10, 2) := by decide +kernel
theorem dX3_met_6 : decode cX3_met 6 = .ok (.iload 10, 2) := by decide +kernel
theorem dX3_met_8 : decode cX3_met 8 = .ok (.aload_n 0, 1) := by decide +kernel
theorem dX3_met_9 : decode cX3_met 9 = .ok (.getfield 37, 3) := by decide +kernel
theorem dX3_met_12 : decode cX3_met 12 = .ok (.if_icmp .ge 162, 3) := by decide +kernel
theorem dX3_met_15 : decode cX3_met 15 = .ok (.aload_n 0, 1) := by decide +kernel
theorem dX3_met_16 : decode cX3_met 16 = .ok (.iload 10, 2) := by decide +kernel
theorem dX3_met_18 : decode cX3_met 18 = .ok (.iload_n 1, 1) := by decide +kernel
theorem dX3_met_19 : decode cX3_met 19 = .ok (.iload_n 2, 1) := by decide +kernel
theorem dX3_met_20 : decode cX3_met 20 = .ok (.lload_n 3, 1) := by decide +kernel
theorem dX3_met_21 : decode cX3_met 21 = .ok (.lload 5, 2) := by decide +kernel
theorem dX3_met_23 : decode cX3_met 23 = .ok (.invokevirtual 41, 3) := by decide +kernel
theorem dX3_met_26 : decode cX3_met 26 = .ok (.istore 11, 2) := by decide +kernel
theorem dX3_met_28 : decode cX3_met 28 = .ok (.iload_n 1, 1) := by decide +kernel
theorem dX3_met_29 : decode cX3_met 29 = .ok (.iconst 3, 1) := by decide +kernel
theorem dX3_met_30 : decode cX3_met 30 = .ok (.if_icmp .ne 34, 3) := by decide +kernel
theorem dX3_met_33 : decode cX3_met 33 = .ok (.iload 7, 2) := by decide +kernel
theorem dX3_met_35 : decode cX3_met 35 = .ok (.ifCond .ne 29, 3) := by decide +kernel
theorem dX3_met_38 : decode cX3_met 38 = .ok (.aload_n 0, 1) := by decide +kernel
theorem dX3_met_39 : decode cX3_met 39 = .ok (.getfield 9, 3) := by decide +kernel
theorem dX3_met_42 : decode cX3_met 42 = .ok (.iload 10, 2) := by decide +kernel
theorem dX3_met_44 : decode cX3_met 44 = .ok (.iaload, 1) := by decide +kernel
theorem dX3_met_45 : decode cX3_met 45 = .ok (.iconst 2, 1) := by decide +kernel
theorem dX3_met_46 : decode cX3_met 46 = .ok (.if_icmp .ne 18, 3) := by decide +kernel
theorem dX3_met_49 : decode cX3_met 49 = .ok (.aload_n 0, 1) := by decide +kernel
theorem dX3_met_50 : decode cX3_met 50 = .ok (.getfield 15, 3) := by decide +kernel
theorem dX3_met_53 : decode cX3_met 53 = .ok (.iload 10, 2) := by decide +kernel
theorem dX3_met_55 : decode cX3_met 55 = .ok (.iaload, 1) := by decide +kernel
theorem dX3_met_56 : decode cX3_met 56 = .ok (.iload_n 2, 1) := by decide +kernel
theorem dX3_met_57 : decode cX3_met 57 = .ok (.if_icmp .ne 7, 3) := by decide +kernel
theorem dX3_met_60 : decode cX3_met 60 = .ok (.iconst 1, 1) := by decide +kernel
theorem dX3_met_61 : decode cX3_met 61 = .ok (.goto 4, 3) := by decide +kernel
theorem dX3_met_64 : decode cX3_met 64 = .ok (.iconst 0, 1) := by decide +kernel
theorem dX3_met_65 : decode cX3_met 65 = .ok (.istore 12, 2) := by decide +kernel
theorem dX3_met_67 : decode cX3_met 67 = .ok (.iload_n 1, 1) := by decide +kernel
theorem dX3_met_68 : decode cX3_met 68 = .ok (.iconst 2, 1) := by decide +kernel
theorem dX3_met_69 : decode cX3_met 69 = .ok (.if_icmp .ne 34, 3) := by decide +kernel
theorem dX3_met_72 : decode cX3_met 72 = .ok (.iload 7, 2) := by decide +kernel
theorem dX3_met_74 : decode cX3_met 74 = .ok (.ifCond .eq 29, 3) := by decide +kernel
theorem dX3_met_77 : decode cX3_met 77 = .ok (.aload_n 0, 1) := by decide +kernel
theorem dX3_met_78 : decode cX3_met 78 = .ok (.getfield 9, 3) := by decide +kernel
theorem dX3_met_81 : decode cX3_met 81 = .ok (.iload 10, 2) := by decide +kernel
theorem dX3_met_83 : decode cX3_met 83 = .ok (.iaload, 1) := by decide +kernel
theorem dX3_met_84 : decode cX3_met 84 = .ok (.iconst 3, 1) := by decide +kernel
theorem dX3_met_85 : decode cX3_met 85 = .ok (.if_icmp .ne 18, 3) := by decide +kernel
theorem dX3_met_88 : decode cX3_met 88 = .ok (.aload_n 0, 1) := by decide +kernel
theorem dX3_met_89 : decode cX3_met 89 = .ok (.getfield 15, 3) := by decide +kernel
theorem dX3_met_92 : decode cX3_met 92 = .ok (.iload 10, 2) := by decide +kernel
theorem dX3_met_94 : decode cX3_met 94 = .ok (.iaload, 1) := by decide +kernel
theorem dX3_met_95 : decode cX3_met 95 = .ok (.iload_n 2, 1) := by decide +kernel
theorem dX3_met_96 : decode cX3_met 96 = .ok (.if_icmp .ne 7, 3) := by decide +kernel
theorem dX3_met_99 : decode cX3_met 99 = .ok (.iconst 1, 1) := by decide +kernel
theorem dX3_met_100 : decode cX3_met 100 = .ok (.goto 4, 3) := by decide +kernel
theorem dX3_met_103 : decode cX3_met 103 = .ok (.iconst 0, 1) := by decide +kernel
theorem dX3_met_104 : decode cX3_met 104 = .ok (.istore 13, 2) := by decide +kernel
theorem dX3_met_106 : decode cX3_met 106 = .ok (.iload 11, 2) := by decide +kernel
theorem dX3_met_108 : decode cX3_met 108 = .ok (.ifCond .ne 8, 3) := by decide +kernel
theorem dX3_met_111 : decode cX3_met 111 = .ok (.iload 12, 2) := by decide +kernel
theorem dX3_met_113 : decode cX3_met 113 = .ok (.ifCond .eq 28, 3) := by decide +kernel
theorem dX3_met_116 : decode cX3_met 116 = .ok (.aload_n 0, 1) := by decide +kernel
theorem dX3_met_117 : decode cX3_met 117 = .ok (.getfield 28, 3) := by decide +kernel
theorem dX3_met_120 : decode cX3_met 120 = .ok (.iload 10, 2) := by decide +kernel
theorem dX3_met_122 : decode cX3_met 122 = .ok (.iaload, 1) := by decide +kernel
theorem dX3_met_123 : decode cX3_met 123 = .ok (.iconst (-1), 1) := by decide +kernel
theorem dX3_met_124 : decode cX3_met 124 = .ok (.if_icmp .eq 17, 3) := by decide +kernel
theorem dX3_met_127 : decode cX3_met 127 = .ok (.iload 9, 2) := by decide +kernel
theorem dX3_met_129 : decode cX3_met 129 = .ok (.iconst 1, 1) := by decide +kernel
theorem dX3_met_130 : decode cX3_met 130 = .ok (.aload_n 0, 1) := by decide +kernel
theorem dX3_met_131 : decode cX3_met 131 = .ok (.getfield 28, 3) := by decide +kernel
theorem dX3_met_134 : decode cX3_met 134 = .ok (.iload 10, 2) := by decide +kernel
theorem dX3_met_136 : decode cX3_met 136 = .ok (.iaload, 1) := by decide +kernel
theorem dX3_met_137 : decode cX3_met 137 = .ok (.ishl, 1) := by decide +kernel
theorem dX3_met_138 : decode cX3_met 138 = .ok (.ior, 1) := by decide +kernel
theorem dX3_met_139 : decode cX3_met 139 = .ok (.istore 9, 2) := by decide +kernel
theorem dX3_met_141 : decode cX3_met 141 = .ok (.iload 11, 2) := by decide +kernel
theorem dX3_met_143 : decode cX3_met 143 = .ok (.ifCond .eq 8, 3) := by decide +kernel
theorem dX3_met_146 : decode cX3_met 146 = .ok (.iload 7, 2) := by decide +kernel
theorem dX3_met_148 : decode cX3_met 148 = .ok (.ifCond .ne 8, 3) := by decide +kernel
theorem dX3_met_151 : decode cX3_met 151 = .ok (.iload 13, 2) := by decide +kernel
theorem dX3_met_153 : decode cX3_met 153 = .ok (.ifCond .eq 15, 3) := by decide +kernel
theorem dX3_met_156 : decode cX3_met 156 = .ok (.iload 9, 2) := by decide +kernel
theorem dX3_met_158 : decode cX3_met 158 = .ok (.aload_n 0, 1) := by decide +kernel
theorem dX3_met_159 : decode cX3_met 159 = .ok (.getfield 25, 3) := by decide +kernel
theorem dX3_met_162 : decode cX3_met 162 = .ok (.iload 10, 2) := by decide +kernel
theorem dX3_met_164 : decode cX3_met 164 = .ok (.iaload, 1) := by decide +kernel
theorem dX3_met_165 : decode cX3_met 165 = .ok (.ior, 1) := by decide +kernel
theorem dX3_met_166 : decode cX3_met 166 = .ok (.istore 9, 2) := by decide +kernel
theorem dX3_met_168 : decode cX3_met 168 = .ok (.iinc 10 1, 3) := by decide +kernel
theorem dX3_met_171 : decode cX3_met 171 = .ok (.goto (-165), 3) := by decide +kernel
theorem dX3_met_174 : decode cX3_met 174 = .ok (.iload 8, 2) := by decide +kernel
theorem dX3_met_176 : decode cX3_met 176 = .ok (.iconst (-1), 1) := by decide +kernel
theorem dX3_met_177 : decode cX3_met 177 = .ok (.if_icmp .ne 8, 3) := by decide +kernel
theorem dX3_met_180 : decode cX3_met 180 = .ok (.iload 9, 2) := by decide +kernel
theorem dX3_met_182 : decode cX3_met 182 = .ok (.goto 12, 3) := by decide +kernel
theorem dX3_met_185 : decode cX3_met 185 = .ok (.iload 9, 2) := by decide +kernel
theorem dX3_met_187 : decode cX3_met 187 = .ok (.iconst 1, 1) := by decide +kernel
theorem dX3_met_188 : decode cX3_met 188 = .ok (.iload 8, 2) := by decide +kernel
theorem dX3_met_190 : decode cX3_met 190 = .ok (.ishl, 1) := by decide +kernel
theorem dX3_met_191 : decode cX3_met 191 = .ok (.iconst (-1), 1) := by decide +kernel
theorem dX3_met_192 : decode cX3_met 192 = .ok (.ixor, 1) := by decide +kernel
theorem dX3_met_193 : decode cX3_met 193 = .ok (.iand, 1) := by decide +kernel
theorem dX3_met_194 : decode cX3_met 194 = .ok (.ireturn, 1) := by decide +kernel
set_option maxHeartbeats 4000000 in
set_option maxRecDepth 100000 in
theorem l_X3_met {G : xG} {n a b : Nat} {Q : Outcome → xS → Prop} {J : xJ} {Z : xR} {T : xT} {R : xR} {I : xI} {N B : Nat} (hk : KS Z T N B) {nt cap jk jo jf js jr jw : Nat} (ht : TH0 R T cap jk jo jf js jr jw) (hnt : nt ≤ cap) (hmn : I 2 0 0 = nI nt) {g oa w o : Int32} {x y : Int64} (hq : Q (.returned (some (.int (thBut (thMet (thAt I J jk jo jf js jr jw) g oa x y w nt) o)))) (I, J, R, Z, T)) (k : Nat) (s : Int32) (hn : 2 ≤ n) :
    (k ≤ nt) → (s = thMet (thAt I J jk jo jf js jr jw) g oa x y w k) → X G mX3_met n a b Q (I, J, R, Z, T) 6 [(1, .ref (T.ad 2 0)), (1, .int g), (1, .int oa), (2, .long x), xo, (2, .long y), xo, (1, .int w), (1, .int o), (1, .int s), (1, .int (nI k)), xo, xo, xo] [] := by
  induction hm : nt - k using Nat.strongRecOn generalizing k s with
  | _ m_ ih =>
    intro h8 hs
    have hc2 := ht.xc2
    refine x_iload 8 dX3_met_6 rfl rfl ?_
    refine x_aload_n 9 dX3_met_8 rfl rfl ?_
    refine x_geti 12 dX3_met_9 rfl fl_X3_37 (hk.l2 (by omega)) ?_
    refine x_vi (w := nI nt) hmn ?_
    refine x_icmp_ge 174 15 dX3_met_12 (by decide) rfl (fun c12 => ?_) (fun c12 => ?_)
    · skip
      have c12 : nt ≤ k := (nI_leI (a := nt) (b := k) (by omega) (by omega)).mp c12
      refine x_iload 176 dX3_met_174 rfl rfl ?_
      refine x_iconst (v := -1) 177 dX3_met_176 rfl rfl ?_
      refine x_icmp_ne 185 180 dX3_met_177 (by decide) rfl (fun c177 => ?_) (fun c177 => ?_)
      · skip
        refine x_iload 187 dX3_met_185 rfl rfl ?_
        refine x_iconst (v := 1) 188 dX3_met_187 rfl rfl ?_
        refine x_iload 190 dX3_met_188 rfl rfl ?_
        refine x_ishl 191 dX3_met_190 rfl ?_
        refine x_iconst (v := -1) 192 dX3_met_191 rfl rfl ?_
        refine x_ixor 193 dX3_met_192 rfl ?_
        refine x_iand 194 dX3_met_193 rfl ?_
        refine x_ireturn dX3_met_194 rfl ?_
        have e : k = nt := by omega
        subst e
        rw [hs]
        exact xri (by unfold thBut; first | rw [if_pos c177] | rw [if_neg c177]) hq
      · skip
        refine x_iload 182 dX3_met_180 rfl rfl ?_
        refine x_goto 194 dX3_met_182 (by decide) ?_
        refine x_ireturn dX3_met_194 rfl ?_
        have e : k = nt := by omega
        subst e
        rw [hs]
        exact xri (by unfold thBut; first | rw [if_pos c177] | rw [if_neg c177]) hq
    · skip
      have c12 : ¬ (nt ≤ k) := fun h => c12 ((nI_leI (a := nt) (b := k) (by omega) (by omega)).mpr h)
      refine x_aload_n 16 dX3_met_15 rfl rfl ?_
      refine x_iload 18 dX3_met_16 rfl rfl ?_
      refine x_iload_n 19 dX3_met_18 rfl rfl ?_
      refine x_iload_n 20 dX3_met_19 rfl rfl ?_
      refine x_lload_n 21 dX3_met_20 rfl rfl ?_
      refine x_lload 23 dX3_met_21 rfl rfl ?_
      refine x_callV (as := [.int (nI k), .int g, .int oa, .long x, .long y]) (rest := []) (i := 0) (n' := n - 1) 26 dX3_met_23 rfl mv_X3_41 rfl rfl (hk.l2 (by omega)) (xnh rfl) (by omega) (xst (Nat.le_of_ble_eq_true rfl)) (c_X3_is hk ht hnt (by omega) (by omega) ?_)
      change X _ _ _ _ _ _ _ _ _ _
      refine x_istore 28 [(1, .ref (T.ad 2 0)), (1, .int g), (1, .int oa), (2, .long x), xo, (2, .long y), xo, (1, .int w), (1, .int o), (1, .int s), (1, .int (nI k)), (1, .int (b2i (thIs (thAt I J jk jo jf js jr jw k) g oa x y))), xo, xo] dX3_met_26 rfl (by decide) rfl ?_
      have J65 : ∀ v : Int32, v = b2i (g = 3 ∧ w = 0 ∧ I 31 jk k = 2 ∧ I 31 jo k = oa) → X G mX3_met n a b Q (I, J, R, Z, T) 65 [(1, .ref (T.ad 2 0)), (1, .int g), (1, .int oa), (2, .long x), xo, (2, .long y), xo, (1, .int w), (1, .int o), (1, .int s), (1, .int (nI k)), (1, .int (b2i (thIs (thAt I J jk jo jf js jr jw k) g oa x y))), xo, xo] [.int v] := by
        intro v hv_; subst hv_
        refine x_istore 67 [(1, .ref (T.ad 2 0)), (1, .int g), (1, .int oa), (2, .long x), xo, (2, .long y), xo, (1, .int w), (1, .int o), (1, .int s), (1, .int (nI k)), (1, .int (b2i (thIs (thAt I J jk jo jf js jr jw k) g oa x y))), (1, .int (b2i (g = 3 ∧ w = 0 ∧ I 31 jk k = 2 ∧ I 31 jo k = oa))), xo] dX3_met_65 rfl (by decide) rfl ?_
        have J104 : ∀ v : Int32, v = b2i (g = 2 ∧ ¬ w = 0 ∧ I 31 jk k = 3 ∧ I 31 jo k = oa) → X G mX3_met n a b Q (I, J, R, Z, T) 104 [(1, .ref (T.ad 2 0)), (1, .int g), (1, .int oa), (2, .long x), xo, (2, .long y), xo, (1, .int w), (1, .int o), (1, .int s), (1, .int (nI k)), (1, .int (b2i (thIs (thAt I J jk jo jf js jr jw k) g oa x y))), (1, .int (b2i (g = 3 ∧ w = 0 ∧ I 31 jk k = 2 ∧ I 31 jo k = oa))), xo] [.int v] := by
          intro v hv_; subst hv_
          refine x_istore 106 [(1, .ref (T.ad 2 0)), (1, .int g), (1, .int oa), (2, .long x), xo, (2, .long y), xo, (1, .int w), (1, .int o), (1, .int s), (1, .int (nI k)), (1, .int (b2i (thIs (thAt I J jk jo jf js jr jw k) g oa x y))), (1, .int (b2i (g = 3 ∧ w = 0 ∧ I 31 jk k = 2 ∧ I 31 jo k = oa))), (1, .int (b2i (g = 2 ∧ ¬ w = 0 ∧ I 31 jk k = 3 ∧ I 31 jo k = oa)))] dX3_met_104 rfl (by decide) rfl ?_
          refine x_iload 108 dX3_met_106 rfl rfl ?_
          refine x_if_ne 116 111 dX3_met_108 (by decide) rfl (fun c108 => ?_) (fun c108 => ?_)
          · skip
            have c108 : thIs (thAt I J jk jo jf js jr jw k) g oa x y := b2i_n0.mp c108
            refine x_aload_n 117 dX3_met_116 rfl rfl ?_
            refine x_gets 120 dX3_met_117 rfl fl_X3_28 (hk.l2 (by omega)) ht.xw ?_
            refine x_iload 122 dX3_met_120 rfl rfl ?_
            refine x_iald 123 dX3_met_122 rfl ar_31 ht.xlw (xb ht.xnw (by omega) (by omega)) ?_
            refine x_iconst (v := -1) 124 dX3_met_123 rfl rfl ?_
            refine x_icmp_eq 141 127 dX3_met_124 (by decide) rfl (fun c124 => ?_) (fun c124 => ?_)
            · skip
              refine x_iload 143 dX3_met_141 rfl rfl ?_
              refine x_if_eq 151 146 dX3_met_143 (by decide) rfl (fun c143 => ?_) (fun c143 => ?_)
              · skip
                have c143 : ¬ (thIs (thAt I J jk jo jf js jr jw k) g oa x y) := b2i_0.mp c143
                refine x_iload 153 dX3_met_151 rfl rfl ?_
                refine x_if_eq 168 156 dX3_met_153 (by decide) rfl (fun c153 => ?_) (fun c153 => ?_)
                · skip
                  have c153 : ¬ (g = 2 ∧ ¬ w = 0 ∧ I 31 jk k = 3 ∧ I 31 jo k = oa) := b2i_0.mp c153
                  refine x_iinc 171 [(1, .ref (T.ad 2 0)), (1, .int g), (1, .int oa), (2, .long x), xo, (2, .long y), xo, (1, .int w), (1, .int o), (1, .int s), (1, .int (nI (k + 1))), (1, .int (b2i (thIs (thAt I J jk jo jf js jr jw k) g oa x y))), (1, .int (b2i (g = 3 ∧ w = 0 ∧ I 31 jk k = 2 ∧ I 31 jo k = oa))), (1, .int (b2i (g = 2 ∧ ¬ w = 0 ∧ I 31 jk k = 3 ∧ I 31 jo k = oa)))] dX3_met_168 rfl (by decide) rfl (xi_1 k) rfl ?_
                  refine x_goto 6 dX3_met_171 (by decide) ?_
                  refine x_fgt [(1, .ref (T.ad 2 0)), (1, .int g), (1, .int oa), (2, .long x), xo, (2, .long y), xo, (1, .int w), (1, .int o), (1, .int s), (1, .int (nI (k + 1))), xo, xo, xo] ⟨Or.inr rfl, Or.inr rfl, Or.inr rfl, Or.inr rfl, Or.inl rfl, Or.inr rfl, Or.inl rfl, Or.inr rfl, Or.inr rfl, Or.inr rfl, Or.inr rfl, Or.inl rfl, Or.inl rfl, Or.inl rfl, trivial⟩ ?_
                  exact ih _ (by rw [← hm]; omega) (k + 1) s rfl (by omega) (by rw [hs]; exact (thM1_00 (t := thAt I J jk jo jf js jr jw k) (g := g) (a := oa) (x := x) (y := y) (w := w) (by rintro ⟨h1 | h1, h2⟩ <;> first | exact c108 h1 | exact c113 h1 | exact h2 c124) (by rintro (⟨h1, h2⟩ | h1) <;> first | exact c143 h1 | exact h2 c148 | exact c153 h1)).symm)
                · skip
                  have c153 : g = 2 ∧ ¬ w = 0 ∧ I 31 jk k = 3 ∧ I 31 jo k = oa := b2i_n0.mp c153
                  refine x_iload 158 dX3_met_156 rfl rfl ?_
                  refine x_aload_n 159 dX3_met_158 rfl rfl ?_
                  refine x_gets 162 dX3_met_159 rfl fl_X3_25 (hk.l2 (by omega)) ht.xr ?_
                  refine x_iload 164 dX3_met_162 rfl rfl ?_
                  refine x_iald 165 dX3_met_164 rfl ar_31 ht.xlr (xb ht.xnr (by omega) (by omega)) ?_
                  refine x_ior 166 dX3_met_165 rfl ?_
                  refine x_nmi fun x1 hx1 => ?_
                  refine x_istore 168 [(1, .ref (T.ad 2 0)), (1, .int g), (1, .int oa), (2, .long x), xo, (2, .long y), xo, (1, .int w), (1, .int o), (1, .int x1), (1, .int (nI k)), (1, .int (b2i (thIs (thAt I J jk jo jf js jr jw k) g oa x y))), (1, .int (b2i (g = 3 ∧ w = 0 ∧ I 31 jk k = 2 ∧ I 31 jo k = oa))), (1, .int (b2i (g = 2 ∧ ¬ w = 0 ∧ I 31 jk k = 3 ∧ I 31 jo k = oa)))] dX3_met_166 rfl (by decide) rfl ?_
                  refine x_iinc 171 [(1, .ref (T.ad 2 0)), (1, .int g), (1, .int oa), (2, .long x), xo, (2, .long y), xo, (1, .int w), (1, .int o), (1, .int x1), (1, .int (nI (k + 1))), (1, .int (b2i (thIs (thAt I J jk jo jf js jr jw k) g oa x y))), (1, .int (b2i (g = 3 ∧ w = 0 ∧ I 31 jk k = 2 ∧ I 31 jo k = oa))), (1, .int (b2i (g = 2 ∧ ¬ w = 0 ∧ I 31 jk k = 3 ∧ I 31 jo k = oa)))] dX3_met_168 rfl (by decide) rfl (xi_1 k) rfl ?_
                  refine x_goto 6 dX3_met_171 (by decide) ?_
                  refine x_fgt [(1, .ref (T.ad 2 0)), (1, .int g), (1, .int oa), (2, .long x), xo, (2, .long y), xo, (1, .int w), (1, .int o), (1, .int x1), (1, .int (nI (k + 1))), xo, xo, xo] ⟨Or.inr rfl, Or.inr rfl, Or.inr rfl, Or.inr rfl, Or.inl rfl, Or.inr rfl, Or.inl rfl, Or.inr rfl, Or.inr rfl, Or.inr rfl, Or.inr rfl, Or.inl rfl, Or.inl rfl, Or.inl rfl, trivial⟩ ?_
                  exact ih _ (by rw [← hm]; omega) (k + 1) x1 rfl (by omega) (by rw [hx1, hs]; exact (thM1_01 (t := thAt I J jk jo jf js jr jw k) (g := g) (a := oa) (x := x) (y := y) (w := w) (by rintro ⟨h1 | h1, h2⟩ <;> first | exact c108 h1 | exact c113 h1 | exact h2 c124) (by first | exact Or.inl ⟨c143, c148⟩ | exact Or.inr c153)).symm)
              · skip
                have c143 : thIs (thAt I J jk jo jf js jr jw k) g oa x y := b2i_n0.mp c143
                refine x_iload 148 dX3_met_146 rfl rfl ?_
                refine x_if_ne 156 151 dX3_met_148 (by decide) rfl (fun c148 => ?_) (fun c148 => ?_)
                · skip
                  refine x_iload 158 dX3_met_156 rfl rfl ?_
                  refine x_aload_n 159 dX3_met_158 rfl rfl ?_
                  refine x_gets 162 dX3_met_159 rfl fl_X3_25 (hk.l2 (by omega)) ht.xr ?_
                  refine x_iload 164 dX3_met_162 rfl rfl ?_
                  refine x_iald 165 dX3_met_164 rfl ar_31 ht.xlr (xb ht.xnr (by omega) (by omega)) ?_
                  refine x_ior 166 dX3_met_165 rfl ?_
                  refine x_nmi fun x2 hx2 => ?_
                  refine x_istore 168 [(1, .ref (T.ad 2 0)), (1, .int g), (1, .int oa), (2, .long x), xo, (2, .long y), xo, (1, .int w), (1, .int o), (1, .int x2), (1, .int (nI k)), (1, .int (b2i (thIs (thAt I J jk jo jf js jr jw k) g oa x y))), (1, .int (b2i (g = 3 ∧ w = 0 ∧ I 31 jk k = 2 ∧ I 31 jo k = oa))), (1, .int (b2i (g = 2 ∧ ¬ w = 0 ∧ I 31 jk k = 3 ∧ I 31 jo k = oa)))] dX3_met_166 rfl (by decide) rfl ?_
                  refine x_iinc 171 [(1, .ref (T.ad 2 0)), (1, .int g), (1, .int oa), (2, .long x), xo, (2, .long y), xo, (1, .int w), (1, .int o), (1, .int x2), (1, .int (nI (k + 1))), (1, .int (b2i (thIs (thAt I J jk jo jf js jr jw k) g oa x y))), (1, .int (b2i (g = 3 ∧ w = 0 ∧ I 31 jk k = 2 ∧ I 31 jo k = oa))), (1, .int (b2i (g = 2 ∧ ¬ w = 0 ∧ I 31 jk k = 3 ∧ I 31 jo k = oa)))] dX3_met_168 rfl (by decide) rfl (xi_1 k) rfl ?_
                  refine x_goto 6 dX3_met_171 (by decide) ?_
                  refine x_fgt [(1, .ref (T.ad 2 0)), (1, .int g), (1, .int oa), (2, .long x), xo, (2, .long y), xo, (1, .int w), (1, .int o), (1, .int x2), (1, .int (nI (k + 1))), xo, xo, xo] ⟨Or.inr rfl, Or.inr rfl, Or.inr rfl, Or.inr rfl, Or.inl rfl, Or.inr rfl, Or.inl rfl, Or.inr rfl, Or.inr rfl, Or.inr rfl, Or.inr rfl, Or.inl rfl, Or.inl rfl, Or.inl rfl, trivial⟩ ?_
                  exact ih _ (by rw [← hm]; omega) (k + 1) x2 rfl (by omega) (by rw [hx2, hs]; exact (thM1_01 (t := thAt I J jk jo jf js jr jw k) (g := g) (a := oa) (x := x) (y := y) (w := w) (by rintro ⟨h1 | h1, h2⟩ <;> first | exact c108 h1 | exact c113 h1 | exact h2 c124) (by first | exact Or.inl ⟨c143, c148⟩ | exact Or.inr c153)).symm)
                · skip
                  refine x_iload 153 dX3_met_151 rfl rfl ?_
                  refine x_if_eq 168 156 dX3_met_153 (by decide) rfl (fun c153 => ?_) (fun c153 => ?_)
                  · skip
                    have c153 : ¬ (g = 2 ∧ ¬ w = 0 ∧ I 31 jk k = 3 ∧ I 31 jo k = oa) := b2i_0.mp c153
                    refine x_iinc 171 [(1, .ref (T.ad 2 0)), (1, .int g), (1, .int oa), (2, .long x), xo, (2, .long y), xo, (1, .int w), (1, .int o), (1, .int s), (1, .int (nI (k + 1))), (1, .int (b2i (thIs (thAt I J jk jo jf js jr jw k) g oa x y))), (1, .int (b2i (g = 3 ∧ w = 0 ∧ I 31 jk k = 2 ∧ I 31 jo k = oa))), (1, .int (b2i (g = 2 ∧ ¬ w = 0 ∧ I 31 jk k = 3 ∧ I 31 jo k = oa)))] dX3_met_168 rfl (by decide) rfl (xi_1 k) rfl ?_
                    refine x_goto 6 dX3_met_171 (by decide) ?_
                    refine x_fgt [(1, .ref (T.ad 2 0)), (1, .int g), (1, .int oa), (2, .long x), xo, (2, .long y), xo, (1, .int w), (1, .int o), (1, .int s), (1, .int (nI (k + 1))), xo, xo, xo] ⟨Or.inr rfl, Or.inr rfl, Or.inr rfl, Or.inr rfl, Or.inl rfl, Or.inr rfl, Or.inl rfl, Or.inr rfl, Or.inr rfl, Or.inr rfl, Or.inr rfl, Or.inl rfl, Or.inl rfl, Or.inl rfl, trivial⟩ ?_
                    exact ih _ (by rw [← hm]; omega) (k + 1) s rfl (by omega) (by rw [hs]; exact (thM1_00 (t := thAt I J jk jo jf js jr jw k) (g := g) (a := oa) (x := x) (y := y) (w := w) (by rintro ⟨h1 | h1, h2⟩ <;> first | exact c108 h1 | exact c113 h1 | exact h2 c124) (by rintro (⟨h1, h2⟩ | h1) <;> first | exact c143 h1 | exact h2 c148 | exact c153 h1)).symm)
                  · skip
                    have c153 : g = 2 ∧ ¬ w = 0 ∧ I 31 jk k = 3 ∧ I 31 jo k = oa := b2i_n0.mp c153
                    refine x_iload 158 dX3_met_156 rfl rfl ?_
                    refine x_aload_n 159 dX3_met_158 rfl rfl ?_
                    refine x_gets 162 dX3_met_159 rfl fl_X3_25 (hk.l2 (by omega)) ht.xr ?_
                    refine x_iload 164 dX3_met_162 rfl rfl ?_
                    refine x_iald 165 dX3_met_164 rfl ar_31 ht.xlr (xb ht.xnr (by omega) (by omega)) ?_
                    refine x_ior 166 dX3_met_165 rfl ?_
                    refine x_nmi fun x3 hx3 => ?_
                    refine x_istore 168 [(1, .ref (T.ad 2 0)), (1, .int g), (1, .int oa), (2, .long x), xo, (2, .long y), xo, (1, .int w), (1, .int o), (1, .int x3), (1, .int (nI k)), (1, .int (b2i (thIs (thAt I J jk jo jf js jr jw k) g oa x y))), (1, .int (b2i (g = 3 ∧ w = 0 ∧ I 31 jk k = 2 ∧ I 31 jo k = oa))), (1, .int (b2i (g = 2 ∧ ¬ w = 0 ∧ I 31 jk k = 3 ∧ I 31 jo k = oa)))] dX3_met_166 rfl (by decide) rfl ?_
                    refine x_iinc 171 [(1, .ref (T.ad 2 0)), (1, .int g), (1, .int oa), (2, .long x), xo, (2, .long y), xo, (1, .int w), (1, .int o), (1, .int x3), (1, .int (nI (k + 1))), (1, .int (b2i (thIs (thAt I J jk jo jf js jr jw k) g oa x y))), (1, .int (b2i (g = 3 ∧ w = 0 ∧ I 31 jk k = 2 ∧ I 31 jo k = oa))), (1, .int (b2i (g = 2 ∧ ¬ w = 0 ∧ I 31 jk k = 3 ∧ I 31 jo k = oa)))] dX3_met_168 rfl (by decide) rfl (xi_1 k) rfl ?_
                    refine x_goto 6 dX3_met_171 (by decide) ?_
                    refine x_fgt [(1, .ref (T.ad 2 0)), (1, .int g), (1, .int oa), (2, .long x), xo, (2, .long y), xo, (1, .int w), (1, .int o), (1, .int x3), (1, .int (nI (k + 1))), xo, xo, xo] ⟨Or.inr rfl, Or.inr rfl, Or.inr rfl, Or.inr rfl, Or.inl rfl, Or.inr rfl, Or.inl rfl, Or.inr rfl, Or.inr rfl, Or.inr rfl, Or.inr rfl, Or.inl rfl, Or.inl rfl, Or.inl rfl, trivial⟩ ?_
                    exact ih _ (by rw [← hm]; omega) (k + 1) x3 rfl (by omega) (by rw [hx3, hs]; exact (thM1_01 (t := thAt I J jk jo jf js jr jw k) (g := g) (a := oa) (x := x) (y := y) (w := w) (by rintro ⟨h1 | h1, h2⟩ <;> first | exact c108 h1 | exact c113 h1 | exact h2 c124) (by first | exact Or.inl ⟨c143, c148⟩ | exact Or.inr c153)).symm)
            · skip
              refine x_iload 129 dX3_met_127 rfl rfl ?_
              refine x_iconst (v := 1) 130 dX3_met_129 rfl rfl ?_
              refine x_aload_n 131 dX3_met_130 rfl rfl ?_
              refine x_gets 134 dX3_met_131 rfl fl_X3_28 (hk.l2 (by omega)) ht.xw ?_
              refine x_iload 136 dX3_met_134 rfl rfl ?_
              refine x_iald 137 dX3_met_136 rfl ar_31 ht.xlw (xb ht.xnw (by omega) (by omega)) ?_
              refine x_ishl 138 dX3_met_137 rfl ?_
              refine x_ior 139 dX3_met_138 rfl ?_
              refine x_nmi fun x4 hx4 => ?_
              refine x_istore 141 [(1, .ref (T.ad 2 0)), (1, .int g), (1, .int oa), (2, .long x), xo, (2, .long y), xo, (1, .int w), (1, .int o), (1, .int x4), (1, .int (nI k)), (1, .int (b2i (thIs (thAt I J jk jo jf js jr jw k) g oa x y))), (1, .int (b2i (g = 3 ∧ w = 0 ∧ I 31 jk k = 2 ∧ I 31 jo k = oa))), (1, .int (b2i (g = 2 ∧ ¬ w = 0 ∧ I 31 jk k = 3 ∧ I 31 jo k = oa)))] dX3_met_139 rfl (by decide) rfl ?_
              refine x_iload 143 dX3_met_141 rfl rfl ?_
              refine x_if_eq 151 146 dX3_met_143 (by decide) rfl (fun c143 => ?_) (fun c143 => ?_)
              · skip
                have c143 : ¬ (thIs (thAt I J jk jo jf js jr jw k) g oa x y) := b2i_0.mp c143
                refine x_iload 153 dX3_met_151 rfl rfl ?_
                refine x_if_eq 168 156 dX3_met_153 (by decide) rfl (fun c153 => ?_) (fun c153 => ?_)
                · skip
                  have c153 : ¬ (g = 2 ∧ ¬ w = 0 ∧ I 31 jk k = 3 ∧ I 31 jo k = oa) := b2i_0.mp c153
                  refine x_iinc 171 [(1, .ref (T.ad 2 0)), (1, .int g), (1, .int oa), (2, .long x), xo, (2, .long y), xo, (1, .int w), (1, .int o), (1, .int x4), (1, .int (nI (k + 1))), (1, .int (b2i (thIs (thAt I J jk jo jf js jr jw k) g oa x y))), (1, .int (b2i (g = 3 ∧ w = 0 ∧ I 31 jk k = 2 ∧ I 31 jo k = oa))), (1, .int (b2i (g = 2 ∧ ¬ w = 0 ∧ I 31 jk k = 3 ∧ I 31 jo k = oa)))] dX3_met_168 rfl (by decide) rfl (xi_1 k) rfl ?_
                  refine x_goto 6 dX3_met_171 (by decide) ?_
                  refine x_fgt [(1, .ref (T.ad 2 0)), (1, .int g), (1, .int oa), (2, .long x), xo, (2, .long y), xo, (1, .int w), (1, .int o), (1, .int x4), (1, .int (nI (k + 1))), xo, xo, xo] ⟨Or.inr rfl, Or.inr rfl, Or.inr rfl, Or.inr rfl, Or.inl rfl, Or.inr rfl, Or.inl rfl, Or.inr rfl, Or.inr rfl, Or.inr rfl, Or.inr rfl, Or.inl rfl, Or.inl rfl, Or.inl rfl, trivial⟩ ?_
                  exact ih _ (by rw [← hm]; omega) (k + 1) x4 rfl (by omega) (by rw [hx4, hs]; exact (thM1_10 (t := thAt I J jk jo jf js jr jw k) (g := g) (a := oa) (x := x) (y := y) (w := w) (⟨by first | exact Or.inl c108 | exact Or.inr c113, c124⟩) (by rintro (⟨h1, h2⟩ | h1) <;> first | exact c143 h1 | exact h2 c148 | exact c153 h1)).symm)
                · skip
                  have c153 : g = 2 ∧ ¬ w = 0 ∧ I 31 jk k = 3 ∧ I 31 jo k = oa := b2i_n0.mp c153
                  refine x_iload 158 dX3_met_156 rfl rfl ?_
                  refine x_aload_n 159 dX3_met_158 rfl rfl ?_
                  refine x_gets 162 dX3_met_159 rfl fl_X3_25 (hk.l2 (by omega)) ht.xr ?_
                  refine x_iload 164 dX3_met_162 rfl rfl ?_
                  refine x_iald 165 dX3_met_164 rfl ar_31 ht.xlr (xb ht.xnr (by omega) (by omega)) ?_
                  refine x_ior 166 dX3_met_165 rfl ?_
                  refine x_nmi fun x5 hx5 => ?_
                  refine x_istore 168 [(1, .ref (T.ad 2 0)), (1, .int g), (1, .int oa), (2, .long x), xo, (2, .long y), xo, (1, .int w), (1, .int o), (1, .int x5), (1, .int (nI k)), (1, .int (b2i (thIs (thAt I J jk jo jf js jr jw k) g oa x y))), (1, .int (b2i (g = 3 ∧ w = 0 ∧ I 31 jk k = 2 ∧ I 31 jo k = oa))), (1, .int (b2i (g = 2 ∧ ¬ w = 0 ∧ I 31 jk k = 3 ∧ I 31 jo k = oa)))] dX3_met_166 rfl (by decide) rfl ?_
                  refine x_iinc 171 [(1, .ref (T.ad 2 0)), (1, .int g), (1, .int oa), (2, .long x), xo, (2, .long y), xo, (1, .int w), (1, .int o), (1, .int x5), (1, .int (nI (k + 1))), (1, .int (b2i (thIs (thAt I J jk jo jf js jr jw k) g oa x y))), (1, .int (b2i (g = 3 ∧ w = 0 ∧ I 31 jk k = 2 ∧ I 31 jo k = oa))), (1, .int (b2i (g = 2 ∧ ¬ w = 0 ∧ I 31 jk k = 3 ∧ I 31 jo k = oa)))] dX3_met_168 rfl (by decide) rfl (xi_1 k) rfl ?_
                  refine x_goto 6 dX3_met_171 (by decide) ?_
                  refine x_fgt [(1, .ref (T.ad 2 0)), (1, .int g), (1, .int oa), (2, .long x), xo, (2, .long y), xo, (1, .int w), (1, .int o), (1, .int x5), (1, .int (nI (k + 1))), xo, xo, xo] ⟨Or.inr rfl, Or.inr rfl, Or.inr rfl, Or.inr rfl, Or.inl rfl, Or.inr rfl, Or.inl rfl, Or.inr rfl, Or.inr rfl, Or.inr rfl, Or.inr rfl, Or.inl rfl, Or.inl rfl, Or.inl rfl, trivial⟩ ?_
                  exact ih _ (by rw [← hm]; omega) (k + 1) x5 rfl (by omega) (by rw [hx5, hx4, hs]; exact (thM1_11 (t := thAt I J jk jo jf js jr jw k) (g := g) (a := oa) (x := x) (y := y) (w := w) (⟨by first | exact Or.inl c108 | exact Or.inr c113, c124⟩) (by first | exact Or.inl ⟨c143, c148⟩ | exact Or.inr c153)).symm)
              · skip
                have c143 : thIs (thAt I J jk jo jf js jr jw k) g oa x y := b2i_n0.mp c143
                refine x_iload 148 dX3_met_146 rfl rfl ?_
                refine x_if_ne 156 151 dX3_met_148 (by decide) rfl (fun c148 => ?_) (fun c148 => ?_)
                · skip
                  refine x_iload 158 dX3_met_156 rfl rfl ?_
                  refine x_aload_n 159 dX3_met_158 rfl rfl ?_
                  refine x_gets 162 dX3_met_159 rfl fl_X3_25 (hk.l2 (by omega)) ht.xr ?_
                  refine x_iload 164 dX3_met_162 rfl rfl ?_
                  refine x_iald 165 dX3_met_164 rfl ar_31 ht.xlr (xb ht.xnr (by omega) (by omega)) ?_
                  refine x_ior 166 dX3_met_165 rfl ?_
                  refine x_nmi fun x6 hx6 => ?_
                  refine x_istore 168 [(1, .ref (T.ad 2 0)), (1, .int g), (1, .int oa), (2, .long x), xo, (2, .long y), xo, (1, .int w), (1, .int o), (1, .int x6), (1, .int (nI k)), (1, .int (b2i (thIs (thAt I J jk jo jf js jr jw k) g oa x y))), (1, .int (b2i (g = 3 ∧ w = 0 ∧ I 31 jk k = 2 ∧ I 31 jo k = oa))), (1, .int (b2i (g = 2 ∧ ¬ w = 0 ∧ I 31 jk k = 3 ∧ I 31 jo k = oa)))] dX3_met_166 rfl (by decide) rfl ?_
                  refine x_iinc 171 [(1, .ref (T.ad 2 0)), (1, .int g), (1, .int oa), (2, .long x), xo, (2, .long y), xo, (1, .int w), (1, .int o), (1, .int x6), (1, .int (nI (k + 1))), (1, .int (b2i (thIs (thAt I J jk jo jf js jr jw k) g oa x y))), (1, .int (b2i (g = 3 ∧ w = 0 ∧ I 31 jk k = 2 ∧ I 31 jo k = oa))), (1, .int (b2i (g = 2 ∧ ¬ w = 0 ∧ I 31 jk k = 3 ∧ I 31 jo k = oa)))] dX3_met_168 rfl (by decide) rfl (xi_1 k) rfl ?_
                  refine x_goto 6 dX3_met_171 (by decide) ?_
                  refine x_fgt [(1, .ref (T.ad 2 0)), (1, .int g), (1, .int oa), (2, .long x), xo, (2, .long y), xo, (1, .int w), (1, .int o), (1, .int x6), (1, .int (nI (k + 1))), xo, xo, xo] ⟨Or.inr rfl, Or.inr rfl, Or.inr rfl, Or.inr rfl, Or.inl rfl, Or.inr rfl, Or.inl rfl, Or.inr rfl, Or.inr rfl, Or.inr rfl, Or.inr rfl, Or.inl rfl, Or.inl rfl, Or.inl rfl, trivial⟩ ?_
                  exact ih _ (by rw [← hm]; omega) (k + 1) x6 rfl (by omega) (by rw [hx6, hx4, hs]; exact (thM1_11 (t := thAt I J jk jo jf js jr jw k) (g := g) (a := oa) (x := x) (y := y) (w := w) (⟨by first | exact Or.inl c108 | exact Or.inr c113, c124⟩) (by first | exact Or.inl ⟨c143, c148⟩ | exact Or.inr c153)).symm)
                · skip
                  refine x_iload 153 dX3_met_151 rfl rfl ?_
                  refine x_if_eq 168 156 dX3_met_153 (by decide) rfl (fun c153 => ?_) (fun c153 => ?_)
                  · skip
                    have c153 : ¬ (g = 2 ∧ ¬ w = 0 ∧ I 31 jk k = 3 ∧ I 31 jo k = oa) := b2i_0.mp c153
                    refine x_iinc 171 [(1, .ref (T.ad 2 0)), (1, .int g), (1, .int oa), (2, .long x), xo, (2, .long y), xo, (1, .int w), (1, .int o), (1, .int x4), (1, .int (nI (k + 1))), (1, .int (b2i (thIs (thAt I J jk jo jf js jr jw k) g oa x y))), (1, .int (b2i (g = 3 ∧ w = 0 ∧ I 31 jk k = 2 ∧ I 31 jo k = oa))), (1, .int (b2i (g = 2 ∧ ¬ w = 0 ∧ I 31 jk k = 3 ∧ I 31 jo k = oa)))] dX3_met_168 rfl (by decide) rfl (xi_1 k) rfl ?_
                    refine x_goto 6 dX3_met_171 (by decide) ?_
                    refine x_fgt [(1, .ref (T.ad 2 0)), (1, .int g), (1, .int oa), (2, .long x), xo, (2, .long y), xo, (1, .int w), (1, .int o), (1, .int x4), (1, .int (nI (k + 1))), xo, xo, xo] ⟨Or.inr rfl, Or.inr rfl, Or.inr rfl, Or.inr rfl, Or.inl rfl, Or.inr rfl, Or.inl rfl, Or.inr rfl, Or.inr rfl, Or.inr rfl, Or.inr rfl, Or.inl rfl, Or.inl rfl, Or.inl rfl, trivial⟩ ?_
                    exact ih _ (by rw [← hm]; omega) (k + 1) x4 rfl (by omega) (by rw [hx4, hs]; exact (thM1_10 (t := thAt I J jk jo jf js jr jw k) (g := g) (a := oa) (x := x) (y := y) (w := w) (⟨by first | exact Or.inl c108 | exact Or.inr c113, c124⟩) (by rintro (⟨h1, h2⟩ | h1) <;> first | exact c143 h1 | exact h2 c148 | exact c153 h1)).symm)
                  · skip
                    have c153 : g = 2 ∧ ¬ w = 0 ∧ I 31 jk k = 3 ∧ I 31 jo k = oa := b2i_n0.mp c153
                    refine x_iload 158 dX3_met_156 rfl rfl ?_
                    refine x_aload_n 159 dX3_met_158 rfl rfl ?_
                    refine x_gets 162 dX3_met_159 rfl fl_X3_25 (hk.l2 (by omega)) ht.xr ?_
                    refine x_iload 164 dX3_met_162 rfl rfl ?_
                    refine x_iald 165 dX3_met_164 rfl ar_31 ht.xlr (xb ht.xnr (by omega) (by omega)) ?_
                    refine x_ior 166 dX3_met_165 rfl ?_
                    refine x_nmi fun x7 hx7 => ?_
                    refine x_istore 168 [(1, .ref (T.ad 2 0)), (1, .int g), (1, .int oa), (2, .long x), xo, (2, .long y), xo, (1, .int w), (1, .int o), (1, .int x7), (1, .int (nI k)), (1, .int (b2i (thIs (thAt I J jk jo jf js jr jw k) g oa x y))), (1, .int (b2i (g = 3 ∧ w = 0 ∧ I 31 jk k = 2 ∧ I 31 jo k = oa))), (1, .int (b2i (g = 2 ∧ ¬ w = 0 ∧ I 31 jk k = 3 ∧ I 31 jo k = oa)))] dX3_met_166 rfl (by decide) rfl ?_
                    refine x_iinc 171 [(1, .ref (T.ad 2 0)), (1, .int g), (1, .int oa), (2, .long x), xo, (2, .long y), xo, (1, .int w), (1, .int o), (1, .int x7), (1, .int (nI (k + 1))), (1, .int (b2i (thIs (thAt I J jk jo jf js jr jw k) g oa x y))), (1, .int (b2i (g = 3 ∧ w = 0 ∧ I 31 jk k = 2 ∧ I 31 jo k = oa))), (1, .int (b2i (g = 2 ∧ ¬ w = 0 ∧ I 31 jk k = 3 ∧ I 31 jo k = oa)))] dX3_met_168 rfl (by decide) rfl (xi_1 k) rfl ?_
                    refine x_goto 6 dX3_met_171 (by decide) ?_
                    refine x_fgt [(1, .ref (T.ad 2 0)), (1, .int g), (1, .int oa), (2, .long x), xo, (2, .long y), xo, (1, .int w), (1, .int o), (1, .int x7), (1, .int (nI (k + 1))), xo, xo, xo] ⟨Or.inr rfl, Or.inr rfl, Or.inr rfl, Or.inr rfl, Or.inl rfl, Or.inr rfl, Or.inl rfl, Or.inr rfl, Or.inr rfl, Or.inr rfl, Or.inr rfl, Or.inl rfl, Or.inl rfl, Or.inl rfl, trivial⟩ ?_
                    exact ih _ (by rw [← hm]; omega) (k + 1) x7 rfl (by omega) (by rw [hx7, hx4, hs]; exact (thM1_11 (t := thAt I J jk jo jf js jr jw k) (g := g) (a := oa) (x := x) (y := y) (w := w) (⟨by first | exact Or.inl c108 | exact Or.inr c113, c124⟩) (by first | exact Or.inl ⟨c143, c148⟩ | exact Or.inr c153)).symm)
          · skip
            have c108 : ¬ (thIs (thAt I J jk jo jf js jr jw k) g oa x y) := b2i_0.mp c108
            refine x_iload 113 dX3_met_111 rfl rfl ?_
            refine x_if_eq 141 116 dX3_met_113 (by decide) rfl (fun c113 => ?_) (fun c113 => ?_)
            · skip
              have c113 : ¬ (g = 3 ∧ w = 0 ∧ I 31 jk k = 2 ∧ I 31 jo k = oa) := b2i_0.mp c113
              refine x_iload 143 dX3_met_141 rfl rfl ?_
              refine x_if_eq 151 146 dX3_met_143 (by decide) rfl (fun c143 => ?_) (fun c143 => ?_)
              · skip
                have c143 : ¬ (thIs (thAt I J jk jo jf js jr jw k) g oa x y) := b2i_0.mp c143
                refine x_iload 153 dX3_met_151 rfl rfl ?_
                refine x_if_eq 168 156 dX3_met_153 (by decide) rfl (fun c153 => ?_) (fun c153 => ?_)
                · skip
                  have c153 : ¬ (g = 2 ∧ ¬ w = 0 ∧ I 31 jk k = 3 ∧ I 31 jo k = oa) := b2i_0.mp c153
                  refine x_iinc 171 [(1, .ref (T.ad 2 0)), (1, .int g), (1, .int oa), (2, .long x), xo, (2, .long y), xo, (1, .int w), (1, .int o), (1, .int s), (1, .int (nI (k + 1))), (1, .int (b2i (thIs (thAt I J jk jo jf js jr jw k) g oa x y))), (1, .int (b2i (g = 3 ∧ w = 0 ∧ I 31 jk k = 2 ∧ I 31 jo k = oa))), (1, .int (b2i (g = 2 ∧ ¬ w = 0 ∧ I 31 jk k = 3 ∧ I 31 jo k = oa)))] dX3_met_168 rfl (by decide) rfl (xi_1 k) rfl ?_
                  refine x_goto 6 dX3_met_171 (by decide) ?_
                  refine x_fgt [(1, .ref (T.ad 2 0)), (1, .int g), (1, .int oa), (2, .long x), xo, (2, .long y), xo, (1, .int w), (1, .int o), (1, .int s), (1, .int (nI (k + 1))), xo, xo, xo] ⟨Or.inr rfl, Or.inr rfl, Or.inr rfl, Or.inr rfl, Or.inl rfl, Or.inr rfl, Or.inl rfl, Or.inr rfl, Or.inr rfl, Or.inr rfl, Or.inr rfl, Or.inl rfl, Or.inl rfl, Or.inl rfl, trivial⟩ ?_
                  exact ih _ (by rw [← hm]; omega) (k + 1) s rfl (by omega) (by rw [hs]; exact (thM1_00 (t := thAt I J jk jo jf js jr jw k) (g := g) (a := oa) (x := x) (y := y) (w := w) (by rintro ⟨h1 | h1, h2⟩ <;> first | exact c108 h1 | exact c113 h1 | exact h2 c124) (by rintro (⟨h1, h2⟩ | h1) <;> first | exact c143 h1 | exact h2 c148 | exact c153 h1)).symm)
                · skip
                  have c153 : g = 2 ∧ ¬ w = 0 ∧ I 31 jk k = 3 ∧ I 31 jo k = oa := b2i_n0.mp c153
                  refine x_iload 158 dX3_met_156 rfl rfl ?_
                  refine x_aload_n 159 dX3_met_158 rfl rfl ?_
                  refine x_gets 162 dX3_met_159 rfl fl_X3_25 (hk.l2 (by omega)) ht.xr ?_
                  refine x_iload 164 dX3_met_162 rfl rfl ?_
                  refine x_iald 165 dX3_met_164 rfl ar_31 ht.xlr (xb ht.xnr (by omega) (by omega)) ?_
                  refine x_ior 166 dX3_met_165 rfl ?_
                  refine x_nmi fun x8 hx8 => ?_
                  refine x_istore 168 [(1, .ref (T.ad 2 0)), (1, .int g), (1, .int oa), (2, .long x), xo, (2, .long y), xo, (1, .int w), (1, .int o), (1, .int x8), (1, .int (nI k)), (1, .int (b2i (thIs (thAt I J jk jo jf js jr jw k) g oa x y))), (1, .int (b2i (g = 3 ∧ w = 0 ∧ I 31 jk k = 2 ∧ I 31 jo k = oa))), (1, .int (b2i (g = 2 ∧ ¬ w = 0 ∧ I 31 jk k = 3 ∧ I 31 jo k = oa)))] dX3_met_166 rfl (by decide) rfl ?_
                  refine x_iinc 171 [(1, .ref (T.ad 2 0)), (1, .int g), (1, .int oa), (2, .long x), xo, (2, .long y), xo, (1, .int w), (1, .int o), (1, .int x8), (1, .int (nI (k + 1))), (1, .int (b2i (thIs (thAt I J jk jo jf js jr jw k) g oa x y))), (1, .int (b2i (g = 3 ∧ w = 0 ∧ I 31 jk k = 2 ∧ I 31 jo k = oa))), (1, .int (b2i (g = 2 ∧ ¬ w = 0 ∧ I 31 jk k = 3 ∧ I 31 jo k = oa)))] dX3_met_168 rfl (by decide) rfl (xi_1 k) rfl ?_
                  refine x_goto 6 dX3_met_171 (by decide) ?_
                  refine x_fgt [(1, .ref (T.ad 2 0)), (1, .int g), (1, .int oa), (2, .long x), xo, (2, .long y), xo, (1, .int w), (1, .int o), (1, .int x8), (1, .int (nI (k + 1))), xo, xo, xo] ⟨Or.inr rfl, Or.inr rfl, Or.inr rfl, Or.inr rfl, Or.inl rfl, Or.inr rfl, Or.inl rfl, Or.inr rfl, Or.inr rfl, Or.inr rfl, Or.inr rfl, Or.inl rfl, Or.inl rfl, Or.inl rfl, trivial⟩ ?_
                  exact ih _ (by rw [← hm]; omega) (k + 1) x8 rfl (by omega) (by rw [hx8, hs]; exact (thM1_01 (t := thAt I J jk jo jf js jr jw k) (g := g) (a := oa) (x := x) (y := y) (w := w) (by rintro ⟨h1 | h1, h2⟩ <;> first | exact c108 h1 | exact c113 h1 | exact h2 c124) (by first | exact Or.inl ⟨c143, c148⟩ | exact Or.inr c153)).symm)
              · skip
                have c143 : thIs (thAt I J jk jo jf js jr jw k) g oa x y := b2i_n0.mp c143
                refine x_iload 148 dX3_met_146 rfl rfl ?_
                refine x_if_ne 156 151 dX3_met_148 (by decide) rfl (fun c148 => ?_) (fun c148 => ?_)
                · skip
                  refine x_iload 158 dX3_met_156 rfl rfl ?_
                  refine x_aload_n 159 dX3_met_158 rfl rfl ?_
                  refine x_gets 162 dX3_met_159 rfl fl_X3_25 (hk.l2 (by omega)) ht.xr ?_
                  refine x_iload 164 dX3_met_162 rfl rfl ?_
                  refine x_iald 165 dX3_met_164 rfl ar_31 ht.xlr (xb ht.xnr (by omega) (by omega)) ?_
                  refine x_ior 166 dX3_met_165 rfl ?_
                  refine x_nmi fun x9 hx9 => ?_
                  refine x_istore 168 [(1, .ref (T.ad 2 0)), (1, .int g), (1, .int oa), (2, .long x), xo, (2, .long y), xo, (1, .int w), (1, .int o), (1, .int x9), (1, .int (nI k)), (1, .int (b2i (thIs (thAt I J jk jo jf js jr jw k) g oa x y))), (1, .int (b2i (g = 3 ∧ w = 0 ∧ I 31 jk k = 2 ∧ I 31 jo k = oa))), (1, .int (b2i (g = 2 ∧ ¬ w = 0 ∧ I 31 jk k = 3 ∧ I 31 jo k = oa)))] dX3_met_166 rfl (by decide) rfl ?_
                  refine x_iinc 171 [(1, .ref (T.ad 2 0)), (1, .int g), (1, .int oa), (2, .long x), xo, (2, .long y), xo, (1, .int w), (1, .int o), (1, .int x9), (1, .int (nI (k + 1))), (1, .int (b2i (thIs (thAt I J jk jo jf js jr jw k) g oa x y))), (1, .int (b2i (g = 3 ∧ w = 0 ∧ I 31 jk k = 2 ∧ I 31 jo k = oa))), (1, .int (b2i (g = 2 ∧ ¬ w = 0 ∧ I 31 jk k = 3 ∧ I 31 jo k = oa)))] dX3_met_168 rfl (by decide) rfl (xi_1 k) rfl ?_
                  refine x_goto 6 dX3_met_171 (by decide) ?_
                  refine x_fgt [(1, .ref (T.ad 2 0)), (1, .int g), (1, .int oa), (2, .long x), xo, (2, .long y), xo, (1, .int w), (1, .int o), (1, .int x9), (1, .int (nI (k + 1))), xo, xo, xo] ⟨Or.inr rfl, Or.inr rfl, Or.inr rfl, Or.inr rfl, Or.inl rfl, Or.inr rfl, Or.inl rfl, Or.inr rfl, Or.inr rfl, Or.inr rfl, Or.inr rfl, Or.inl rfl, Or.inl rfl, Or.inl rfl, trivial⟩ ?_
                  exact ih _ (by rw [← hm]; omega) (k + 1) x9 rfl (by omega) (by rw [hx9, hs]; exact (thM1_01 (t := thAt I J jk jo jf js jr jw k) (g := g) (a := oa) (x := x) (y := y) (w := w) (by rintro ⟨h1 | h1, h2⟩ <;> first | exact c108 h1 | exact c113 h1 | exact h2 c124) (by first | exact Or.inl ⟨c143, c148⟩ | exact Or.inr c153)).symm)
                · skip
                  refine x_iload 153 dX3_met_151 rfl rfl ?_
                  refine x_if_eq 168 156 dX3_met_153 (by decide) rfl (fun c153 => ?_) (fun c153 => ?_)
                  · skip
                    have c153 : ¬ (g = 2 ∧ ¬ w = 0 ∧ I 31 jk k = 3 ∧ I 31 jo k = oa) := b2i_0.mp c153
                    refine x_iinc 171 [(1, .ref (T.ad 2 0)), (1, .int g), (1, .int oa), (2, .long x), xo, (2, .long y), xo, (1, .int w), (1, .int o), (1, .int s), (1, .int (nI (k + 1))), (1, .int (b2i (thIs (thAt I J jk jo jf js jr jw k) g oa x y))), (1, .int (b2i (g = 3 ∧ w = 0 ∧ I 31 jk k = 2 ∧ I 31 jo k = oa))), (1, .int (b2i (g = 2 ∧ ¬ w = 0 ∧ I 31 jk k = 3 ∧ I 31 jo k = oa)))] dX3_met_168 rfl (by decide) rfl (xi_1 k) rfl ?_
                    refine x_goto 6 dX3_met_171 (by decide) ?_
                    refine x_fgt [(1, .ref (T.ad 2 0)), (1, .int g), (1, .int oa), (2, .long x), xo, (2, .long y), xo, (1, .int w), (1, .int o), (1, .int s), (1, .int (nI (k + 1))), xo, xo, xo] ⟨Or.inr rfl, Or.inr rfl, Or.inr rfl, Or.inr rfl, Or.inl rfl, Or.inr rfl, Or.inl rfl, Or.inr rfl, Or.inr rfl, Or.inr rfl, Or.inr rfl, Or.inl rfl, Or.inl rfl, Or.inl rfl, trivial⟩ ?_
                    exact ih _ (by rw [← hm]; omega) (k + 1) s rfl (by omega) (by rw [hs]; exact (thM1_00 (t := thAt I J jk jo jf js jr jw k) (g := g) (a := oa) (x := x) (y := y) (w := w) (by rintro ⟨h1 | h1, h2⟩ <;> first | exact c108 h1 | exact c113 h1 | exact h2 c124) (by rintro (⟨h1, h2⟩ | h1) <;> first | exact c143 h1 | exact h2 c148 | exact c153 h1)).symm)
                  · skip
                    have c153 : g = 2 ∧ ¬ w = 0 ∧ I 31 jk k = 3 ∧ I 31 jo k = oa := b2i_n0.mp c153
                    refine x_iload 158 dX3_met_156 rfl rfl ?_
                    refine x_aload_n 159 dX3_met_158 rfl rfl ?_
                    refine x_gets 162 dX3_met_159 rfl fl_X3_25 (hk.l2 (by omega)) ht.xr ?_
                    refine x_iload 164 dX3_met_162 rfl rfl ?_
                    refine x_iald 165 dX3_met_164 rfl ar_31 ht.xlr (xb ht.xnr (by omega) (by omega)) ?_
                    refine x_ior 166 dX3_met_165 rfl ?_
                    refine x_nmi fun x10 hx10 => ?_
                    refine x_istore 168 [(1, .ref (T.ad 2 0)), (1, .int g), (1, .int oa), (2, .long x), xo, (2, .long y), xo, (1, .int w), (1, .int o), (1, .int x10), (1, .int (nI k)), (1, .int (b2i (thIs (thAt I J jk jo jf js jr jw k) g oa x y))), (1, .int (b2i (g = 3 ∧ w = 0 ∧ I 31 jk k = 2 ∧ I 31 jo k = oa))), (1, .int (b2i (g = 2 ∧ ¬ w = 0 ∧ I 31 jk k = 3 ∧ I 31 jo k = oa)))] dX3_met_166 rfl (by decide) rfl ?_
                    refine x_iinc 171 [(1, .ref (T.ad 2 0)), (1, .int g), (1, .int oa), (2, .long x), xo, (2, .long y), xo, (1, .int w), (1, .int o), (1, .int x10), (1, .int (nI (k + 1))), (1, .int (b2i (thIs (thAt I J jk jo jf js jr jw k) g oa x y))), (1, .int (b2i (g = 3 ∧ w = 0 ∧ I 31 jk k = 2 ∧ I 31 jo k = oa))), (1, .int (b2i (g = 2 ∧ ¬ w = 0 ∧ I 31 jk k = 3 ∧ I 31 jo k = oa)))] dX3_met_168 rfl (by decide) rfl (xi_1 k) rfl ?_
                    refine x_goto 6 dX3_met_171 (by decide) ?_
                    refine x_fgt [(1, .ref (T.ad 2 0)), (1, .int g), (1, .int oa), (2, .long x), xo, (2, .long y), xo, (1, .int w), (1, .int o), (1, .int x10), (1, .int (nI (k + 1))), xo, xo, xo] ⟨Or.inr rfl, Or.inr rfl, Or.inr rfl, Or.inr rfl, Or.inl rfl, Or.inr rfl, Or.inl rfl, Or.inr rfl, Or.inr rfl, Or.inr rfl, Or.inr rfl, Or.inl rfl, Or.inl rfl, Or.inl rfl, trivial⟩ ?_
                    exact ih _ (by rw [← hm]; omega) (k + 1) x10 rfl (by omega) (by rw [hx10, hs]; exact (thM1_01 (t := thAt I J jk jo jf js jr jw k) (g := g) (a := oa) (x := x) (y := y) (w := w) (by rintro ⟨h1 | h1, h2⟩ <;> first | exact c108 h1 | exact c113 h1 | exact h2 c124) (by first | exact Or.inl ⟨c143, c148⟩ | exact Or.inr c153)).symm)
            · skip
              have c113 : g = 3 ∧ w = 0 ∧ I 31 jk k = 2 ∧ I 31 jo k = oa := b2i_n0.mp c113
              refine x_aload_n 117 dX3_met_116 rfl rfl ?_
              refine x_gets 120 dX3_met_117 rfl fl_X3_28 (hk.l2 (by omega)) ht.xw ?_
              refine x_iload 122 dX3_met_120 rfl rfl ?_
              refine x_iald 123 dX3_met_122 rfl ar_31 ht.xlw (xb ht.xnw (by omega) (by omega)) ?_
              refine x_iconst (v := -1) 124 dX3_met_123 rfl rfl ?_
              refine x_icmp_eq 141 127 dX3_met_124 (by decide) rfl (fun c124 => ?_) (fun c124 => ?_)
              · skip
                refine x_iload 143 dX3_met_141 rfl rfl ?_
                refine x_if_eq 151 146 dX3_met_143 (by decide) rfl (fun c143 => ?_) (fun c143 => ?_)
                · skip
                  have c143 : ¬ (thIs (thAt I J jk jo jf js jr jw k) g oa x y) := b2i_0.mp c143
                  refine x_iload 153 dX3_met_151 rfl rfl ?_
                  refine x_if_eq 168 156 dX3_met_153 (by decide) rfl (fun c153 => ?_) (fun c153 => ?_)
                  · skip
                    have c153 : ¬ (g = 2 ∧ ¬ w = 0 ∧ I 31 jk k = 3 ∧ I 31 jo k = oa) := b2i_0.mp c153
                    refine x_iinc 171 [(1, .ref (T.ad 2 0)), (1, .int g), (1, .int oa), (2, .long x), xo, (2, .long y), xo, (1, .int w), (1, .int o), (1, .int s), (1, .int (nI (k + 1))), (1, .int (b2i (thIs (thAt I J jk jo jf js jr jw k) g oa x y))), (1, .int (b2i (g = 3 ∧ w = 0 ∧ I 31 jk k = 2 ∧ I 31 jo k = oa))), (1, .int (b2i (g = 2 ∧ ¬ w = 0 ∧ I 31 jk k = 3 ∧ I 31 jo k = oa)))] dX3_met_168 rfl (by decide) rfl (xi_1 k) rfl ?_
                    refine x_goto 6 dX3_met_171 (by decide) ?_
                    refine x_fgt [(1, .ref (T.ad 2 0)), (1, .int g), (1, .int oa), (2, .long x), xo, (2, .long y), xo, (1, .int w), (1, .int o), (1, .int s), (1, .int (nI (k + 1))), xo, xo, xo] ⟨Or.inr rfl, Or.inr rfl, Or.inr rfl, Or.inr rfl, Or.inl rfl, Or.inr rfl, Or.inl rfl, Or.inr rfl, Or.inr rfl, Or.inr rfl, Or.inr rfl, Or.inl rfl, Or.inl rfl, Or.inl rfl, trivial⟩ ?_
                    exact ih _ (by rw [← hm]; omega) (k + 1) s rfl (by omega) (by rw [hs]; exact (thM1_00 (t := thAt I J jk jo jf js jr jw k) (g := g) (a := oa) (x := x) (y := y) (w := w) (by rintro ⟨h1 | h1, h2⟩ <;> first | exact c108 h1 | exact c113 h1 | exact h2 c124) (by rintro (⟨h1, h2⟩ | h1) <;> first | exact c143 h1 | exact h2 c148 | exact c153 h1)).symm)
                  · skip
                    have c153 : g = 2 ∧ ¬ w = 0 ∧ I 31 jk k = 3 ∧ I 31 jo k = oa := b2i_n0.mp c153
                    refine x_iload 158 dX3_met_156 rfl rfl ?_
                    refine x_aload_n 159 dX3_met_158 rfl rfl ?_
                    refine x_gets 162 dX3_met_159 rfl fl_X3_25 (hk.l2 (by omega)) ht.xr ?_
                    refine x_iload 164 dX3_met_162 rfl rfl ?_
                    refine x_iald 165 dX3_met_164 rfl ar_31 ht.xlr (xb ht.xnr (by omega) (by omega)) ?_
                    refine x_ior 166 dX3_met_165 rfl ?_
                    refine x_nmi fun x11 hx11 => ?_
                    refine x_istore 168 [(1, .ref (T.ad 2 0)), (1, .int g), (1, .int oa), (2, .long x), xo, (2, .long y), xo, (1, .int w), (1, .int o), (1, .int x11), (1, .int (nI k)), (1, .int (b2i (thIs (thAt I J jk jo jf js jr jw k) g oa x y))), (1, .int (b2i (g = 3 ∧ w = 0 ∧ I 31 jk k = 2 ∧ I 31 jo k = oa))), (1, .int (b2i (g = 2 ∧ ¬ w = 0 ∧ I 31 jk k = 3 ∧ I 31 jo k = oa)))] dX3_met_166 rfl (by decide) rfl ?_
                    refine x_iinc 171 [(1, .ref (T.ad 2 0)), (1, .int g), (1, .int oa), (2, .long x), xo, (2, .long y), xo, (1, .int w), (1, .int o), (1, .int x11), (1, .int (nI (k + 1))), (1, .int (b2i (thIs (thAt I J jk jo jf js jr jw k) g oa x y))), (1, .int (b2i (g = 3 ∧ w = 0 ∧ I 31 jk k = 2 ∧ I 31 jo k = oa))), (1, .int (b2i (g = 2 ∧ ¬ w = 0 ∧ I 31 jk k = 3 ∧ I 31 jo k = oa)))] dX3_met_168 rfl (by decide) rfl (xi_1 k) rfl ?_
                    refine x_goto 6 dX3_met_171 (by decide) ?_
                    refine x_fgt [(1, .ref (T.ad 2 0)), (1, .int g), (1, .int oa), (2, .long x), xo, (2, .long y), xo, (1, .int w), (1, .int o), (1, .int x11), (1, .int (nI (k + 1))), xo, xo, xo] ⟨Or.inr rfl, Or.inr rfl, Or.inr rfl, Or.inr rfl, Or.inl rfl, Or.inr rfl, Or.inl rfl, Or.inr rfl, Or.inr rfl, Or.inr rfl, Or.inr rfl, Or.inl rfl, Or.inl rfl, Or.inl rfl, trivial⟩ ?_
                    exact ih _ (by rw [← hm]; omega) (k + 1) x11 rfl (by omega) (by rw [hx11, hs]; exact (thM1_01 (t := thAt I J jk jo jf js jr jw k) (g := g) (a := oa) (x := x) (y := y) (w := w) (by rintro ⟨h1 | h1, h2⟩ <;> first | exact c108 h1 | exact c113 h1 | exact h2 c124) (by first | exact Or.inl ⟨c143, c148⟩ | exact Or.inr c153)).symm)
                · skip
                  have c143 : thIs (thAt I J jk jo jf js jr jw k) g oa x y := b2i_n0.mp c143
                  refine x_iload 148 dX3_met_146 rfl rfl ?_
                  refine x_if_ne 156 151 dX3_met_148 (by decide) rfl (fun c148 => ?_) (fun c148 => ?_)
                  · skip
                    refine x_iload 158 dX3_met_156 rfl rfl ?_
                    refine x_aload_n 159 dX3_met_158 rfl rfl ?_
                    refine x_gets 162 dX3_met_159 rfl fl_X3_25 (hk.l2 (by omega)) ht.xr ?_
                    refine x_iload 164 dX3_met_162 rfl rfl ?_
                    refine x_iald 165 dX3_met_164 rfl ar_31 ht.xlr (xb ht.xnr (by omega) (by omega)) ?_
                    refine x_ior 166 dX3_met_165 rfl ?_
                    refine x_nmi fun x12 hx12 => ?_
                    refine x_istore 168 [(1, .ref (T.ad 2 0)), (1, .int g), (1, .int oa), (2, .long x), xo, (2, .long y), xo, (1, .int w), (1, .int o), (1, .int x12), (1, .int (nI k)), (1, .int (b2i (thIs (thAt I J jk jo jf js jr jw k) g oa x y))), (1, .int (b2i (g = 3 ∧ w = 0 ∧ I 31 jk k = 2 ∧ I 31 jo k = oa))), (1, .int (b2i (g = 2 ∧ ¬ w = 0 ∧ I 31 jk k = 3 ∧ I 31 jo k = oa)))] dX3_met_166 rfl (by decide) rfl ?_
                    refine x_iinc 171 [(1, .ref (T.ad 2 0)), (1, .int g), (1, .int oa), (2, .long x), xo, (2, .long y), xo, (1, .int w), (1, .int o), (1, .int x12), (1, .int (nI (k + 1))), (1, .int (b2i (thIs (thAt I J jk jo jf js jr jw k) g oa x y))), (1, .int (b2i (g = 3 ∧ w = 0 ∧ I 31 jk k = 2 ∧ I 31 jo k = oa))), (1, .int (b2i (g = 2 ∧ ¬ w = 0 ∧ I 31 jk k = 3 ∧ I 31 jo k = oa)))] dX3_met_168 rfl (by decide) rfl (xi_1 k) rfl ?_
                    refine x_goto 6 dX3_met_171 (by decide) ?_
                    refine x_fgt [(1, .ref (T.ad 2 0)), (1, .int g), (1, .int oa), (2, .long x), xo, (2, .long y), xo, (1, .int w), (1, .int o), (1, .int x12), (1, .int (nI (k + 1))), xo, xo, xo] ⟨Or.inr rfl, Or.inr rfl, Or.inr rfl, Or.inr rfl, Or.inl rfl, Or.inr rfl, Or.inl rfl, Or.inr rfl, Or.inr rfl, Or.inr rfl, Or.inr rfl, Or.inl rfl, Or.inl rfl, Or.inl rfl, trivial⟩ ?_
                    exact ih _ (by rw [← hm]; omega) (k + 1) x12 rfl (by omega) (by rw [hx12, hs]; exact (thM1_01 (t := thAt I J jk jo jf js jr jw k) (g := g) (a := oa) (x := x) (y := y) (w := w) (by rintro ⟨h1 | h1, h2⟩ <;> first | exact c108 h1 | exact c113 h1 | exact h2 c124) (by first | exact Or.inl ⟨c143, c148⟩ | exact Or.inr c153)).symm)
                  · skip
                    refine x_iload 153 dX3_met_151 rfl rfl ?_
                    refine x_if_eq 168 156 dX3_met_153 (by decide) rfl (fun c153 => ?_) (fun c153 => ?_)
                    · skip
                      have c153 : ¬ (g = 2 ∧ ¬ w = 0 ∧ I 31 jk k = 3 ∧ I 31 jo k = oa) := b2i_0.mp c153
                      refine x_iinc 171 [(1, .ref (T.ad 2 0)), (1, .int g), (1, .int oa), (2, .long x), xo, (2, .long y), xo, (1, .int w), (1, .int o), (1, .int s), (1, .int (nI (k + 1))), (1, .int (b2i (thIs (thAt I J jk jo jf js jr jw k) g oa x y))), (1, .int (b2i (g = 3 ∧ w = 0 ∧ I 31 jk k = 2 ∧ I 31 jo k = oa))), (1, .int (b2i (g = 2 ∧ ¬ w = 0 ∧ I 31 jk k = 3 ∧ I 31 jo k = oa)))] dX3_met_168 rfl (by decide) rfl (xi_1 k) rfl ?_
                      refine x_goto 6 dX3_met_171 (by decide) ?_
                      refine x_fgt [(1, .ref (T.ad 2 0)), (1, .int g), (1, .int oa), (2, .long x), xo, (2, .long y), xo, (1, .int w), (1, .int o), (1, .int s), (1, .int (nI (k + 1))), xo, xo, xo] ⟨Or.inr rfl, Or.inr rfl, Or.inr rfl, Or.inr rfl, Or.inl rfl, Or.inr rfl, Or.inl rfl, Or.inr rfl, Or.inr rfl, Or.inr rfl, Or.inr rfl, Or.inl rfl, Or.inl rfl, Or.inl rfl, trivial⟩ ?_
                      exact ih _ (by rw [← hm]; omega) (k + 1) s rfl (by omega) (by rw [hs]; exact (thM1_00 (t := thAt I J jk jo jf js jr jw k) (g := g) (a := oa) (x := x) (y := y) (w := w) (by rintro ⟨h1 | h1, h2⟩ <;> first | exact c108 h1 | exact c113 h1 | exact h2 c124) (by rintro (⟨h1, h2⟩ | h1) <;> first | exact c143 h1 | exact h2 c148 | exact c153 h1)).symm)
                    · skip
                      have c153 : g = 2 ∧ ¬ w = 0 ∧ I 31 jk k = 3 ∧ I 31 jo k = oa := b2i_n0.mp c153
                      refine x_iload 158 dX3_met_156 rfl rfl ?_
                      refine x_aload_n 159 dX3_met_158 rfl rfl ?_
                      refine x_gets 162 dX3_met_159 rfl fl_X3_25 (hk.l2 (by omega)) ht.xr ?_
                      refine x_iload 164 dX3_met_162 rfl rfl ?_
                      refine x_iald 165 dX3_met_164 rfl ar_31 ht.xlr (xb ht.xnr (by omega) (by omega)) ?_
                      refine x_ior 166 dX3_met_165 rfl ?_
                      refine x_nmi fun x13 hx13 => ?_
                      refine x_istore 168 [(1, .ref (T.ad 2 0)), (1, .int g), (1, .int oa), (2, .long x), xo, (2, .long y), xo, (1, .int w), (1, .int o), (1, .int x13), (1, .int (nI k)), (1, .int (b2i (thIs (thAt I J jk jo jf js jr jw k) g oa x y))), (1, .int (b2i (g = 3 ∧ w = 0 ∧ I 31 jk k = 2 ∧ I 31 jo k = oa))), (1, .int (b2i (g = 2 ∧ ¬ w = 0 ∧ I 31 jk k = 3 ∧ I 31 jo k = oa)))] dX3_met_166 rfl (by decide) rfl ?_
                      refine x_iinc 171 [(1, .ref (T.ad 2 0)), (1, .int g), (1, .int oa), (2, .long x), xo, (2, .long y), xo, (1, .int w), (1, .int o), (1, .int x13), (1, .int (nI (k + 1))), (1, .int (b2i (thIs (thAt I J jk jo jf js jr jw k) g oa x y))), (1, .int (b2i (g = 3 ∧ w = 0 ∧ I 31 jk k = 2 ∧ I 31 jo k = oa))), (1, .int (b2i (g = 2 ∧ ¬ w = 0 ∧ I 31 jk k = 3 ∧ I 31 jo k = oa)))] dX3_met_168 rfl (by decide) rfl (xi_1 k) rfl ?_
                      refine x_goto 6 dX3_met_171 (by decide) ?_
                      refine x_fgt [(1, .ref (T.ad 2 0)), (1, .int g), (1, .int oa), (2, .long x), xo, (2, .long y), xo, (1, .int w), (1, .int o), (1, .int x13), (1, .int (nI (k + 1))), xo, xo, xo] ⟨Or.inr rfl, Or.inr rfl, Or.inr rfl, Or.inr rfl, Or.inl rfl, Or.inr rfl, Or.inl rfl, Or.inr rfl, Or.inr rfl, Or.inr rfl, Or.inr rfl, Or.inl rfl, Or.inl rfl, Or.inl rfl, trivial⟩ ?_
                      exact ih _ (by rw [← hm]; omega) (k + 1) x13 rfl (by omega) (by rw [hx13, hs]; exact (thM1_01 (t := thAt I J jk jo jf js jr jw k) (g := g) (a := oa) (x := x) (y := y) (w := w) (by rintro ⟨h1 | h1, h2⟩ <;> first | exact c108 h1 | exact c113 h1 | exact h2 c124) (by first | exact Or.inl ⟨c143, c148⟩ | exact Or.inr c153)).symm)
              · skip
                refine x_iload 129 dX3_met_127 rfl rfl ?_
                refine x_iconst (v := 1) 130 dX3_met_129 rfl rfl ?_
                refine x_aload_n 131 dX3_met_130 rfl rfl ?_
                refine x_gets 134 dX3_met_131 rfl fl_X3_28 (hk.l2 (by omega)) ht.xw ?_
                refine x_iload 136 dX3_met_134 rfl rfl ?_
                refine x_iald 137 dX3_met_136 rfl ar_31 ht.xlw (xb ht.xnw (by omega) (by omega)) ?_
                refine x_ishl 138 dX3_met_137 rfl ?_
                refine x_ior 139 dX3_met_138 rfl ?_
                refine x_nmi fun x14 hx14 => ?_
                refine x_istore 141 [(1, .ref (T.ad 2 0)), (1, .int g), (1, .int oa), (2, .long x), xo, (2, .long y), xo, (1, .int w), (1, .int o), (1, .int x14), (1, .int (nI k)), (1, .int (b2i (thIs (thAt I J jk jo jf js jr jw k) g oa x y))), (1, .int (b2i (g = 3 ∧ w = 0 ∧ I 31 jk k = 2 ∧ I 31 jo k = oa))), (1, .int (b2i (g = 2 ∧ ¬ w = 0 ∧ I 31 jk k = 3 ∧ I 31 jo k = oa)))] dX3_met_139 rfl (by decide) rfl ?_
                refine x_iload 143 dX3_met_141 rfl rfl ?_
                refine x_if_eq 151 146 dX3_met_143 (by decide) rfl (fun c143 => ?_) (fun c143 => ?_)
                · skip
                  have c143 : ¬ (thIs (thAt I J jk jo jf js jr jw k) g oa x y) := b2i_0.mp c143
                  refine x_iload 153 dX3_met_151 rfl rfl ?_
                  refine x_if_eq 168 156 dX3_met_153 (by decide) rfl (fun c153 => ?_) (fun c153 => ?_)
                  · skip
                    have c153 : ¬ (g = 2 ∧ ¬ w = 0 ∧ I 31 jk k = 3 ∧ I 31 jo k = oa) := b2i_0.mp c153
                    refine x_iinc 171 [(1, .ref (T.ad 2 0)), (1, .int g), (1, .int oa), (2, .long x), xo, (2, .long y), xo, (1, .int w), (1, .int o), (1, .int x14), (1, .int (nI (k + 1))), (1, .int (b2i (thIs (thAt I J jk jo jf js jr jw k) g oa x y))), (1, .int (b2i (g = 3 ∧ w = 0 ∧ I 31 jk k = 2 ∧ I 31 jo k = oa))), (1, .int (b2i (g = 2 ∧ ¬ w = 0 ∧ I 31 jk k = 3 ∧ I 31 jo k = oa)))] dX3_met_168 rfl (by decide) rfl (xi_1 k) rfl ?_
                    refine x_goto 6 dX3_met_171 (by decide) ?_
                    refine x_fgt [(1, .ref (T.ad 2 0)), (1, .int g), (1, .int oa), (2, .long x), xo, (2, .long y), xo, (1, .int w), (1, .int o), (1, .int x14), (1, .int (nI (k + 1))), xo, xo, xo] ⟨Or.inr rfl, Or.inr rfl, Or.inr rfl, Or.inr rfl, Or.inl rfl, Or.inr rfl, Or.inl rfl, Or.inr rfl, Or.inr rfl, Or.inr rfl, Or.inr rfl, Or.inl rfl, Or.inl rfl, Or.inl rfl, trivial⟩ ?_
                    exact ih _ (by rw [← hm]; omega) (k + 1) x14 rfl (by omega) (by rw [hx14, hs]; exact (thM1_10 (t := thAt I J jk jo jf js jr jw k) (g := g) (a := oa) (x := x) (y := y) (w := w) (⟨by first | exact Or.inl c108 | exact Or.inr c113, c124⟩) (by rintro (⟨h1, h2⟩ | h1) <;> first | exact c143 h1 | exact h2 c148 | exact c153 h1)).symm)
                  · skip
                    have c153 : g = 2 ∧ ¬ w = 0 ∧ I 31 jk k = 3 ∧ I 31 jo k = oa := b2i_n0.mp c153
                    refine x_iload 158 dX3_met_156 rfl rfl ?_
                    refine x_aload_n 159 dX3_met_158 rfl rfl ?_
                    refine x_gets 162 dX3_met_159 rfl fl_X3_25 (hk.l2 (by omega)) ht.xr ?_
                    refine x_iload 164 dX3_met_162 rfl rfl ?_
                    refine x_iald 165 dX3_met_164 rfl ar_31 ht.xlr (xb ht.xnr (by omega) (by omega)) ?_
                    refine x_ior 166 dX3_met_165 rfl ?_
                    refine x_nmi fun x15 hx15 => ?_
                    refine x_istore 168 [(1, .ref (T.ad 2 0)), (1, .int g), (1, .int oa), (2, .long x), xo, (2, .long y), xo, (1, .int w), (1, .int o), (1, .int x15), (1, .int (nI k)), (1, .int (b2i (thIs (thAt I J jk jo jf js jr jw k) g oa x y))), (1, .int (b2i (g = 3 ∧ w = 0 ∧ I 31 jk k = 2 ∧ I 31 jo k = oa))), (1, .int (b2i (g = 2 ∧ ¬ w = 0 ∧ I 31 jk k = 3 ∧ I 31 jo k = oa)))] dX3_met_166 rfl (by decide) rfl ?_
                    refine x_iinc 171 [(1, .ref (T.ad 2 0)), (1, .int g), (1, .int oa), (2, .long x), xo, (2, .long y), xo, (1, .int w), (1, .int o), (1, .int x15), (1, .int (nI (k + 1))), (1, .int (b2i (thIs (thAt I J jk jo jf js jr jw k) g oa x y))), (1, .int (b2i (g = 3 ∧ w = 0 ∧ I 31 jk k = 2 ∧ I 31 jo k = oa))), (1, .int (b2i (g = 2 ∧ ¬ w = 0 ∧ I 31 jk k = 3 ∧ I 31 jo k = oa)))] dX3_met_168 rfl (by decide) rfl (xi_1 k) rfl ?_
                    refine x_goto 6 dX3_met_171 (by decide) ?_
                    refine x_fgt [(1, .ref (T.ad 2 0)), (1, .int g), (1, .int oa), (2, .long x), xo, (2, .long y), xo, (1, .int w), (1, .int o), (1, .int x15), (1, .int (nI (k + 1))), xo, xo, xo] ⟨Or.inr rfl, Or.inr rfl, Or.inr rfl, Or.inr rfl, Or.inl rfl, Or.inr rfl, Or.inl rfl, Or.inr rfl, Or.inr rfl, Or.inr rfl, Or.inr rfl, Or.inl rfl, Or.inl rfl, Or.inl rfl, trivial⟩ ?_
                    exact ih _ (by rw [← hm]; omega) (k + 1) x15 rfl (by omega) (by rw [hx15, hx14, hs]; exact (thM1_11 (t := thAt I J jk jo jf js jr jw k) (g := g) (a := oa) (x := x) (y := y) (w := w) (⟨by first | exact Or.inl c108 | exact Or.inr c113, c124⟩) (by first | exact Or.inl ⟨c143, c148⟩ | exact Or.inr c153)).symm)
                · skip
                  have c143 : thIs (thAt I J jk jo jf js jr jw k) g oa x y := b2i_n0.mp c143
                  refine x_iload 148 dX3_met_146 rfl rfl ?_
                  refine x_if_ne 156 151 dX3_met_148 (by decide) rfl (fun c148 => ?_) (fun c148 => ?_)
                  · skip
                    refine x_iload 158 dX3_met_156 rfl rfl ?_
                    refine x_aload_n 159 dX3_met_158 rfl rfl ?_
                    refine x_gets 162 dX3_met_159 rfl fl_X3_25 (hk.l2 (by omega)) ht.xr ?_
                    refine x_iload 164 dX3_met_162 rfl rfl ?_
                    refine x_iald 165 dX3_met_164 rfl ar_31 ht.xlr (xb ht.xnr (by omega) (by omega)) ?_
                    refine x_ior 166 dX3_met_165 rfl ?_
                    refine x_nmi fun x16 hx16 => ?_
                    refine x_istore 168 [(1, .ref (T.ad 2 0)), (1, .int g), (1, .int oa), (2, .long x), xo, (2, .long y), xo, (1, .int w), (1, .int o), (1, .int x16), (1, .int (nI k)), (1, .int (b2i (thIs (thAt I J jk jo jf js jr jw k) g oa x y))), (1, .int (b2i (g = 3 ∧ w = 0 ∧ I 31 jk k = 2 ∧ I 31 jo k = oa))), (1, .int (b2i (g = 2 ∧ ¬ w = 0 ∧ I 31 jk k = 3 ∧ I 31 jo k = oa)))] dX3_met_166 rfl (by decide) rfl ?_
                    refine x_iinc 171 [(1, .ref (T.ad 2 0)), (1, .int g), (1, .int oa), (2, .long x), xo, (2, .long y), xo, (1, .int w), (1, .int o), (1, .int x16), (1, .int (nI (k + 1))), (1, .int (b2i (thIs (thAt I J jk jo jf js jr jw k) g oa x y))), (1, .int (b2i (g = 3 ∧ w = 0 ∧ I 31 jk k = 2 ∧ I 31 jo k = oa))), (1, .int (b2i (g = 2 ∧ ¬ w = 0 ∧ I 31 jk k = 3 ∧ I 31 jo k = oa)))] dX3_met_168 rfl (by decide) rfl (xi_1 k) rfl ?_
                    refine x_goto 6 dX3_met_171 (by decide) ?_
                    refine x_fgt [(1, .ref (T.ad 2 0)), (1, .int g), (1, .int oa), (2, .long x), xo, (2, .long y), xo, (1, .int w), (1, .int o), (1, .int x16), (1, .int (nI (k + 1))), xo, xo, xo] ⟨Or.inr rfl, Or.inr rfl, Or.inr rfl, Or.inr rfl, Or.inl rfl, Or.inr rfl, Or.inl rfl, Or.inr rfl, Or.inr rfl, Or.inr rfl, Or.inr rfl, Or.inl rfl, Or.inl rfl, Or.inl rfl, trivial⟩ ?_
                    exact ih _ (by rw [← hm]; omega) (k + 1) x16 rfl (by omega) (by rw [hx16, hx14, hs]; exact (thM1_11 (t := thAt I J jk jo jf js jr jw k) (g := g) (a := oa) (x := x) (y := y) (w := w) (⟨by first | exact Or.inl c108 | exact Or.inr c113, c124⟩) (by first | exact Or.inl ⟨c143, c148⟩ | exact Or.inr c153)).symm)
                  · skip
                    refine x_iload 153 dX3_met_151 rfl rfl ?_
                    refine x_if_eq 168 156 dX3_met_153 (by decide) rfl (fun c153 => ?_) (fun c153 => ?_)
                    · skip
                      have c153 : ¬ (g = 2 ∧ ¬ w = 0 ∧ I 31 jk k = 3 ∧ I 31 jo k = oa) := b2i_0.mp c153
                      refine x_iinc 171 [(1, .ref (T.ad 2 0)), (1, .int g), (1, .int oa), (2, .long x), xo, (2, .long y), xo, (1, .int w), (1, .int o), (1, .int x14), (1, .int (nI (k + 1))), (1, .int (b2i (thIs (thAt I J jk jo jf js jr jw k) g oa x y))), (1, .int (b2i (g = 3 ∧ w = 0 ∧ I 31 jk k = 2 ∧ I 31 jo k = oa))), (1, .int (b2i (g = 2 ∧ ¬ w = 0 ∧ I 31 jk k = 3 ∧ I 31 jo k = oa)))] dX3_met_168 rfl (by decide) rfl (xi_1 k) rfl ?_
                      refine x_goto 6 dX3_met_171 (by decide) ?_
                      refine x_fgt [(1, .ref (T.ad 2 0)), (1, .int g), (1, .int oa), (2, .long x), xo, (2, .long y), xo, (1, .int w), (1, .int o), (1, .int x14), (1, .int (nI (k + 1))), xo, xo, xo] ⟨Or.inr rfl, Or.inr rfl, Or.inr rfl, Or.inr rfl, Or.inl rfl, Or.inr rfl, Or.inl rfl, Or.inr rfl, Or.inr rfl, Or.inr rfl, Or.inr rfl, Or.inl rfl, Or.inl rfl, Or.inl rfl, trivial⟩ ?_
                      exact ih _ (by rw [← hm]; omega) (k + 1) x14 rfl (by omega) (by rw [hx14, hs]; exact (thM1_10 (t := thAt I J jk jo jf js jr jw k) (g := g) (a := oa) (x := x) (y := y) (w := w) (⟨by first | exact Or.inl c108 | exact Or.inr c113, c124⟩) (by rintro (⟨h1, h2⟩ | h1) <;> first | exact c143 h1 | exact h2 c148 | exact c153 h1)).symm)
                    · skip
                      have c153 : g = 2 ∧ ¬ w = 0 ∧ I 31 jk k = 3 ∧ I 31 jo k = oa := b2i_n0.mp c153
                      refine x_iload 158 dX3_met_156 rfl rfl ?_
                      refine x_aload_n 159 dX3_met_158 rfl rfl ?_
                      refine x_gets 162 dX3_met_159 rfl fl_X3_25 (hk.l2 (by omega)) ht.xr ?_
                      refine x_iload 164 dX3_met_162 rfl rfl ?_
                      refine x_iald 165 dX3_met_164 rfl ar_31 ht.xlr (xb ht.xnr (by omega) (by omega)) ?_
                      refine x_ior 166 dX3_met_165 rfl ?_
                      refine x_nmi fun x17 hx17 => ?_
                      refine x_istore 168 [(1, .ref (T.ad 2 0)), (1, .int g), (1, .int oa), (2, .long x), xo, (2, .long y), xo, (1, .int w), (1, .int o), (1, .int x17), (1, .int (nI k)), (1, .int (b2i (thIs (thAt I J jk jo jf js jr jw k) g oa x y))), (1, .int (b2i (g = 3 ∧ w = 0 ∧ I 31 jk k = 2 ∧ I 31 jo k = oa))), (1, .int (b2i (g = 2 ∧ ¬ w = 0 ∧ I 31 jk k = 3 ∧ I 31 jo k = oa)))] dX3_met_166 rfl (by decide) rfl ?_
                      refine x_iinc 171 [(1, .ref (T.ad 2 0)), (1, .int g), (1, .int oa), (2, .long x), xo, (2, .long y), xo, (1, .int w), (1, .int o), (1, .int x17), (1, .int (nI (k + 1))), (1, .int (b2i (thIs (thAt I J jk jo jf js jr jw k) g oa x y))), (1, .int (b2i (g = 3 ∧ w = 0 ∧ I 31 jk k = 2 ∧ I 31 jo k = oa))), (1, .int (b2i (g = 2 ∧ ¬ w = 0 ∧ I 31 jk k = 3 ∧ I 31 jo k = oa)))] dX3_met_168 rfl (by decide) rfl (xi_1 k) rfl ?_
                      refine x_goto 6 dX3_met_171 (by decide) ?_
                      refine x_fgt [(1, .ref (T.ad 2 0)), (1, .int g), (1, .int oa), (2, .long x), xo, (2, .long y), xo, (1, .int w), (1, .int o), (1, .int x17), (1, .int (nI (k + 1))), xo, xo, xo] ⟨Or.inr rfl, Or.inr rfl, Or.inr rfl, Or.inr rfl, Or.inl rfl, Or.inr rfl, Or.inl rfl, Or.inr rfl, Or.inr rfl, Or.inr rfl, Or.inr rfl, Or.inl rfl, Or.inl rfl, Or.inl rfl, trivial⟩ ?_
                      exact ih _ (by rw [← hm]; omega) (k + 1) x17 rfl (by omega) (by rw [hx17, hx14, hs]; exact (thM1_11 (t := thAt I J jk jo jf js jr jw k) (g := g) (a := oa) (x := x) (y := y) (w := w) (⟨by first | exact Or.inl c108 | exact Or.inr c113, c124⟩) (by first | exact Or.inl ⟨c143, c148⟩ | exact Or.inr c153)).symm)
        refine x_iload_n 68 dX3_met_67 rfl rfl ?_
        refine x_iconst (v := 2) 69 dX3_met_68 rfl rfl ?_
        refine x_icmp_ne 103 72 dX3_met_69 (by decide) rfl (fun c69 => ?_) (fun c69 => ?_)
        · skip
          refine x_iconst (v := 0) 104 dX3_met_103 rfl rfl ?_
          exact J104 _ (b2i_f (by rintro ⟨h1, h2, h3, h4⟩; first | exact c69 h1 | exact h2 c74 | exact c85 h3 | exact c96 h4)).symm
        · skip
          refine x_iload 74 dX3_met_72 rfl rfl ?_
          refine x_if_eq 103 77 dX3_met_74 (by decide) rfl (fun c74 => ?_) (fun c74 => ?_)
          · skip
            refine x_iconst (v := 0) 104 dX3_met_103 rfl rfl ?_
            exact J104 _ (b2i_f (by rintro ⟨h1, h2, h3, h4⟩; first | exact c69 h1 | exact h2 c74 | exact c85 h3 | exact c96 h4)).symm
          · skip
            refine x_aload_n 78 dX3_met_77 rfl rfl ?_
            refine x_gets 81 dX3_met_78 rfl fl_X3_9 (hk.l2 (by omega)) ht.xk ?_
            refine x_iload 83 dX3_met_81 rfl rfl ?_
            refine x_iald 84 dX3_met_83 rfl ar_31 ht.xlk (xb ht.xnk (by omega) (by omega)) ?_
            refine x_iconst (v := 3) 85 dX3_met_84 rfl rfl ?_
            refine x_icmp_ne 103 88 dX3_met_85 (by decide) rfl (fun c85 => ?_) (fun c85 => ?_)
            · skip
              refine x_iconst (v := 0) 104 dX3_met_103 rfl rfl ?_
              exact J104 _ (b2i_f (by rintro ⟨h1, h2, h3, h4⟩; first | exact c69 h1 | exact h2 c74 | exact c85 h3 | exact c96 h4)).symm
            · skip
              refine x_aload_n 89 dX3_met_88 rfl rfl ?_
              refine x_gets 92 dX3_met_89 rfl fl_X3_15 (hk.l2 (by omega)) ht.xo ?_
              refine x_iload 94 dX3_met_92 rfl rfl ?_
              refine x_iald 95 dX3_met_94 rfl ar_31 ht.xlo (xb ht.xno (by omega) (by omega)) ?_
              refine x_iload_n 96 dX3_met_95 rfl rfl ?_
              refine x_icmp_ne 103 99 dX3_met_96 (by decide) rfl (fun c96 => ?_) (fun c96 => ?_)
              · skip
                refine x_iconst (v := 0) 104 dX3_met_103 rfl rfl ?_
                exact J104 _ (b2i_f (by rintro ⟨h1, h2, h3, h4⟩; first | exact c69 h1 | exact h2 c74 | exact c85 h3 | exact c96 h4)).symm
              · skip
                refine x_iconst (v := 1) 100 dX3_met_99 rfl rfl ?_
                refine x_goto 104 dX3_met_100 (by decide) ?_
                exact J104 _ (b2i_t (⟨c69, c74, c85, c96⟩)).symm
      refine x_iload_n 29 dX3_met_28 rfl rfl ?_
      refine x_iconst (v := 3) 30 dX3_met_29 rfl rfl ?_
      refine x_icmp_ne 64 33 dX3_met_30 (by decide) rfl (fun c30 => ?_) (fun c30 => ?_)
      · skip
        refine x_iconst (v := 0) 65 dX3_met_64 rfl rfl ?_
        exact J65 _ (b2i_f (by rintro ⟨h1, h2, h3, h4⟩; first | exact c30 h1 | exact c35 h2 | exact c46 h3 | exact c57 h4)).symm
      · skip
        refine x_iload 35 dX3_met_33 rfl rfl ?_
        refine x_if_ne 64 38 dX3_met_35 (by decide) rfl (fun c35 => ?_) (fun c35 => ?_)
        · skip
          refine x_iconst (v := 0) 65 dX3_met_64 rfl rfl ?_
          exact J65 _ (b2i_f (by rintro ⟨h1, h2, h3, h4⟩; first | exact c30 h1 | exact c35 h2 | exact c46 h3 | exact c57 h4)).symm
        · skip
          refine x_aload_n 39 dX3_met_38 rfl rfl ?_
          refine x_gets 42 dX3_met_39 rfl fl_X3_9 (hk.l2 (by omega)) ht.xk ?_
          refine x_iload 44 dX3_met_42 rfl rfl ?_
          refine x_iald 45 dX3_met_44 rfl ar_31 ht.xlk (xb ht.xnk (by omega) (by omega)) ?_
          refine x_iconst (v := 2) 46 dX3_met_45 rfl rfl ?_
          refine x_icmp_ne 64 49 dX3_met_46 (by decide) rfl (fun c46 => ?_) (fun c46 => ?_)
          · skip
            refine x_iconst (v := 0) 65 dX3_met_64 rfl rfl ?_
            exact J65 _ (b2i_f (by rintro ⟨h1, h2, h3, h4⟩; first | exact c30 h1 | exact c35 h2 | exact c46 h3 | exact c57 h4)).symm
          · skip
            refine x_aload_n 50 dX3_met_49 rfl rfl ?_
            refine x_gets 53 dX3_met_50 rfl fl_X3_15 (hk.l2 (by omega)) ht.xo ?_
            refine x_iload 55 dX3_met_53 rfl rfl ?_
            refine x_iald 56 dX3_met_55 rfl ar_31 ht.xlo (xb ht.xno (by omega) (by omega)) ?_
            refine x_iload_n 57 dX3_met_56 rfl rfl ?_
            refine x_icmp_ne 64 60 dX3_met_57 (by decide) rfl (fun c57 => ?_) (fun c57 => ?_)
            · skip
              refine x_iconst (v := 0) 65 dX3_met_64 rfl rfl ?_
              exact J65 _ (b2i_f (by rintro ⟨h1, h2, h3, h4⟩; first | exact c30 h1 | exact c35 h2 | exact c46 h3 | exact c57 h4)).symm
            · skip
              refine x_iconst (v := 1) 61 dX3_met_60 rfl rfl ?_
              refine x_goto 65 dX3_met_61 (by decide) ?_
              exact J65 _ (b2i_t (⟨c30, c35, c46, c57⟩)).symm
set_option maxHeartbeats 4000000 in
set_option maxRecDepth 100000 in
theorem c0_X3_met {G : xG} {n : Nat} {Q : Outcome → xS → Prop} {I : xI} {J : xJ} {R Z : xR} {T : xT} {N B : Nat} (hk : KS Z T N B) {nt cap jk jo jf js jr jw : Nat} (ht : TH0 R T cap jk jo jf js jr jw) (hnt : nt ≤ cap) (hmn : I 2 0 0 = nI nt) {g oa w o : Int32} {x y : Int64} (hn : 2 ≤ n) (hq : Q (.returned (some (.int (thBut (thMet (thAt I J jk jo jf js jr jw) g oa x y w nt) o)))) (I, J, R, Z, T)) : xCall G mX3_met n [.ref (T.ad 2 0), .int g, .int oa, .long x, .long y, .int w, .int o] (I, J, R, Z, T) Q := by
  refine x_met (L0 := [(1, .ref (T.ad 2 0)), (1, .int g), (1, .int oa), (2, .long x), xo, (2, .long y), xo, (1, .int w), (1, .int o), xo, xo, xo, xo, xo]) (by decide +kernel) rfl ⟨Nat.le_of_ble_eq_true rfl, rfl⟩ ?_
  refine x_iconst (v := 0) 1 dX3_met_0 rfl rfl ?_
  refine x_istore 3 [(1, .ref (T.ad 2 0)), (1, .int g), (1, .int oa), (2, .long x), xo, (2, .long y), xo, (1, .int w), (1, .int o), (1, .int 0), xo, xo, xo, xo] dX3_met_1 rfl (by decide) rfl ?_
  refine x_iconst (v := 0) 4 dX3_met_3 rfl rfl ?_
  refine x_istore 6 [(1, .ref (T.ad 2 0)), (1, .int g), (1, .int oa), (2, .long x), xo, (2, .long y), xo, (1, .int w), (1, .int o), (1, .int 0), (1, .int 0), xo, xo, xo] dX3_met_4 rfl (by decide) rfl ?_
  exact l_X3_met hk ht hnt hmn hq 0 0 hn (by omega) rfl
