set_option maxRecDepth 100000
theorem wA_byte : Cond.arrayClass .byte ∈ lw_all := lw_g (lw_at lw_m1 48 rfl) rfl
theorem wA_int : Cond.arrayClass .int ∈ lw_all := lw_g (lw_at lw_m1 88 rfl) rfl
theorem wA_long : Cond.arrayClass .long ∈ lw_all := lw_g (lw_at lw_m1 89 rfl) rfl
theorem wA_boolean : Cond.arrayClass .boolean ∈ lw_all := lw_g (lw_at lw_m2 116 rfl) rfl
theorem x_fresh {G : xG} {M : xM} {n a b : Nat} {Q : Outcome → xS → Prop} {I : xI} {J : xJ} {R Z : xR} {T : xT} {pc : Nat} {L : List (Nat × Value)} {st : List Value} {c i : Nat} (had : T.ad c i = G.n0 + T.nc) (k : (∀ c' i', T.lv c' i' → ¬ (c' = c ∧ i' = i)) → X G M n a b Q (I, J, R, Z, T) pc L st) : X G M n a b Q (I, J, R, Z, T) pc L st := by
  intro p e R0 s m args below meth c0 hC H locs ls hH h1 h2 hl hL
  exact k (fun c' i' h' => hH.fresh had h') p e R0 s m args below meth c0 hC H locs ls hH h1 h2 hl hL
/-- how the shape grows when the rows are doubled -/
def thG (T T' : xT) (cap : Nat) : Prop := T'.ad = T.ad ∧ T'.nc = T.nc + 6 ∧ T'.ns = T.ns + 12 * cap ∧ (∀ c i, T.lv c i → T'.lv c i ∧ T'.len c i = T.len c i) ∧ (∀ c, c ≠ 31 → c ≠ 32 → T'.lv c = T.lv c ∧ T'.len c = T.len c)
theorem xT.add_f {T : xT} {c i m s c' : Nat} (h : c' ≠ c) : (T.add c i m s).lv c' = T.lv c' ∧ (T.add c i m s).len c' = T.len c' := by
  constructor
  · funext j; show ((c' = c ∧ j = i) ∨ T.lv c' j) = T.lv c' j; exact propext ⟨fun q => q.elim (fun e => absurd e.1 h) id, Or.inr⟩
  · funext j; show (if c' = c ∧ j = i then m else T.len c' j) = T.len c' j; rw [if_neg (fun e => h e.1)]
theorem KS.grow {Z : xR} {T T' : xT} {N B : Nat} (h : KS Z T N B) (hf : ∀ c, c ≠ 31 → c ≠ 32 → T'.lv c = T.lv c ∧ T'.len c = T.len c) : KS Z T' N B := by
  refine ⟨h.1, fun c i hi => ?_, fun c i hi h20 => ?_, h.2.2.2⟩
  · by_cases e1 : c = 31
    · subst e1; exact absurd hi (by simp [kcnt])
    · by_cases e2 : c = 32
      · subst e2; exact absurd hi (by simp [kcnt])
      · rw [(hf c e1 e2).1]; exact h.2.1 c i hi
  · by_cases e1 : c = 31
    · subst e1; exact absurd hi (by simp [kcnt])
    · by_cases e2 : c = 32
      · subst e2; exact absurd hi (by simp [kcnt])
      · rw [(hf c e1 e2).2]; exact h.2.2.1 c i hi h20
theorem dX3_twice_0 : decode cX3_twice 0 = .ok (.iconst 2, 1) := by decide +kernel
theorem dX3_twice_1 : decode cX3_twice 1 = .ok (.aload_n 1, 1) := by decide +kernel
theorem dX3_twice_2 : decode cX3_twice 2 = .ok (.arraylength, 1) := by decide +kernel
theorem dX3_twice_3 : decode cX3_twice 3 = .ok (.imul, 1) := by decide +kernel
theorem dX3_twice_4 : decode cX3_twice 4 = .ok (.newarray .int, 2) := by decide +kernel
theorem dX3_twice_6 : decode cX3_twice 6 = .ok (.astore_n 2, 1) := by decide +kernel
theorem dX3_twice_7 : decode cX3_twice 7 = .ok (.aload_n 1, 1) := by decide +kernel
theorem dX3_twice_8 : decode cX3_twice 8 = .ok (.iconst 0, 1) := by decide +kernel
theorem dX3_twice_9 : decode cX3_twice 9 = .ok (.aload_n 2, 1) := by decide +kernel
theorem dX3_twice_10 : decode cX3_twice 10 = .ok (.iconst 0, 1) := by decide +kernel
theorem dX3_twice_11 : decode cX3_twice 11 = .ok (.aload_n 1, 1) := by decide +kernel
theorem dX3_twice_12 : decode cX3_twice 12 = .ok (.arraylength, 1) := by decide +kernel
theorem dX3_twice_13 : decode cX3_twice 13 = .ok (.invokestatic 31, 3) := by decide +kernel
theorem dX3_twice_16 : decode cX3_twice 16 = .ok (.aload_n 2, 1) := by decide +kernel
theorem dX3_twice_17 : decode cX3_twice 17 = .ok (.areturn, 1) := by decide +kernel
set_option maxHeartbeats 4000000 in
set_option maxRecDepth 100000 in
theorem c_X3_twice {G : xG} {n : Nat} {Q : Outcome → xS → Prop} {I : xI} {J : xJ} {R Z : xR} {T : xT} {cap jx : Nat} (hl : T.lv 31 jx) (hlen : T.len 31 jx = cap) (hcap : cap < 100000) (had : ∀ x, T.ad 31 x = x) (hc : T.nc + 1 ≤ 899237) (hs : T.ns + 2 * cap ≤ 6392848) (hn : 1 ≤ n)
    (hq : (∀ c' i', T.lv c' i' → ¬ (c' = 31 ∧ i' = G.n0 + T.nc)) → Q (.returned (some (.ref (T.ad 31 (G.n0 + T.nc))))) (xur I 31 (G.n0 + T.nc) (fun k => if k < cap then I 31 jx k else 0), J, R, Z, T.add 31 (G.n0 + T.nc) (2 * cap) (2 * cap))) : xCall G mX3_twice n [.ref (T.ad 2 0), .ref (T.ad 31 jx)] (I, J, R, Z, T) Q := by
  refine x_met (L0 := [(1, .ref (T.ad 2 0)), (1, .ref (T.ad 31 jx)), xo]) (by decide +kernel) rfl ⟨Nat.le_of_ble_eq_true rfl, rfl⟩ ?_
  refine x_fresh (c := 31) (i := G.n0 + T.nc) (had _) fun hfr => ?_
  have hne := hfr 31 jx hl
  refine x_iconst (v := 2) 1 dX3_twice_0 rfl rfl ?_
  refine x_aload_n 2 dX3_twice_1 rfl rfl ?_
  refine x_alen 3 dX3_twice_2 rfl ar_31 hl ?_
  refine x_vi (congrArg nI hlen) ?_
  refine x_imuln 2 cap 4 dX3_twice_3 rfl rfl rfl ?_
  refine x_newaI (m := 2 * cap) 6 31 (G.n0 + T.nc) dX3_twice_4 rfl wA_int ar_31 rfl (by omega) (by decide) (had _) hc hs ?_
  refine x_astore_n 7 [(1, .ref (T.ad 2 0)), (1, .ref (T.ad 31 jx)), (1, .ref (T.ad 31 (G.n0 + T.nc)))] dX3_twice_6 rfl (by decide) rfl ?_
  refine x_aload_n 8 dX3_twice_7 rfl rfl ?_
  refine x_iconst (v := 0) 9 dX3_twice_8 rfl rfl ?_
  refine x_aload_n 10 dX3_twice_9 rfl rfl ?_
  refine x_iconst (v := 0) 11 dX3_twice_10 rfl rfl ?_
  refine x_aload_n 12 dX3_twice_11 rfl rfl ?_
  refine x_alen (T := T.add 31 (G.n0 + T.nc) (2 * cap) (2 * cap)) 13 dX3_twice_12 rfl ar_31 (Or.inr hl) ?_
  refine x_vi (congrArg nI ((xT.add_len_n hne).trans hlen)) ?_
  refine x_copyi (T := T.add 31 (G.n0 + T.nc) (2 * cap) (2 * cap)) (sp := 0) (dp := 0) (m := cap) 16 dX3_twice_13 rfl cp_X3_31 ar_31 ar_31 (Or.inl rfl) ⟨by decide, fun _ => by decide⟩ (Or.inr hl) (Or.inl ⟨rfl, rfl⟩) (by decide) (by omega) (xst (Nat.le_of_ble_eq_true rfl)) ⟨by omega, by omega, by omega⟩ (by rw [xT.add_len_n hne]; omega) (by rw [xT.add_len]; omega) ?_
  rw [xur_xur]
  have e : va_cpy (xur I 31 (G.n0 + T.nc) (fun _ => 0) 31 jx) (xur I 31 (G.n0 + T.nc) (fun _ => 0) 31 (G.n0 + T.nc)) 0 0 cap = fun k => if k < cap then I 31 jx k else 0 := by
    funext k
    unfold va_cpy
    rw [xur_n hne, xur_eq]
    by_cases h : k < cap
    · rw [if_pos (by omega), if_pos h]; congr 1; omega
    · rw [if_neg (by omega), if_neg h]
  rw [e]
  refine x_aload_n 17 dX3_twice_16 rfl rfl ?_
  refine x_areturn dX3_twice_17 rfl (Or.inr ⟨_, rfl⟩) ?_
  exact hq hfr
theorem dX3_twice_2_0 : decode cX3_twice_2 0 = .ok (.iconst 2, 1) := by decide +kernel
theorem dX3_twice_2_1 : decode cX3_twice_2 1 = .ok (.aload_n 1, 1) := by decide +kernel
theorem dX3_twice_2_2 : decode cX3_twice_2 2 = .ok (.arraylength, 1) := by decide +kernel
theorem dX3_twice_2_3 : decode cX3_twice_2 3 = .ok (.imul, 1) := by decide +kernel
theorem dX3_twice_2_4 : decode cX3_twice_2 4 = .ok (.newarray .long, 2) := by decide +kernel
theorem dX3_twice_2_6 : decode cX3_twice_2 6 = .ok (.astore_n 2, 1) := by decide +kernel
theorem dX3_twice_2_7 : decode cX3_twice_2 7 = .ok (.aload_n 1, 1) := by decide +kernel
theorem dX3_twice_2_8 : decode cX3_twice_2 8 = .ok (.iconst 0, 1) := by decide +kernel
theorem dX3_twice_2_9 : decode cX3_twice_2 9 = .ok (.aload_n 2, 1) := by decide +kernel
theorem dX3_twice_2_10 : decode cX3_twice_2 10 = .ok (.iconst 0, 1) := by decide +kernel
theorem dX3_twice_2_11 : decode cX3_twice_2 11 = .ok (.aload_n 1, 1) := by decide +kernel
theorem dX3_twice_2_12 : decode cX3_twice_2 12 = .ok (.arraylength, 1) := by decide +kernel
theorem dX3_twice_2_13 : decode cX3_twice_2 13 = .ok (.invokestatic 31, 3) := by decide +kernel
theorem dX3_twice_2_16 : decode cX3_twice_2 16 = .ok (.aload_n 2, 1) := by decide +kernel
theorem dX3_twice_2_17 : decode cX3_twice_2 17 = .ok (.areturn, 1) := by decide +kernel
set_option maxHeartbeats 4000000 in
set_option maxRecDepth 100000 in
theorem c_X3_twice_2 {G : xG} {n : Nat} {Q : Outcome → xS → Prop} {I : xI} {J : xJ} {R Z : xR} {T : xT} {cap jx : Nat} (hl : T.lv 32 jx) (hlen : T.len 32 jx = cap) (hcap : cap < 100000) (had : ∀ x, T.ad 32 x = x) (hc : T.nc + 1 ≤ 899237) (hs : T.ns + 2 * cap ≤ 6392848) (hn : 1 ≤ n)
    (hq : (∀ c' i', T.lv c' i' → ¬ (c' = 32 ∧ i' = G.n0 + T.nc)) → Q (.returned (some (.ref (T.ad 32 (G.n0 + T.nc))))) (I, xur J 32 (G.n0 + T.nc) (fun k => if k < cap then J 32 jx k else 0), R, Z, T.add 32 (G.n0 + T.nc) (2 * cap) (2 * cap))) : xCall G mX3_twice_2 n [.ref (T.ad 2 0), .ref (T.ad 32 jx)] (I, J, R, Z, T) Q := by
  refine x_met (L0 := [(1, .ref (T.ad 2 0)), (1, .ref (T.ad 32 jx)), xo]) (by decide +kernel) rfl ⟨Nat.le_of_ble_eq_true rfl, rfl⟩ ?_
  refine x_fresh (c := 32) (i := G.n0 + T.nc) (had _) fun hfr => ?_
  have hne := hfr 32 jx hl
  refine x_iconst (v := 2) 1 dX3_twice_2_0 rfl rfl ?_
  refine x_aload_n 2 dX3_twice_2_1 rfl rfl ?_
  refine x_alen 3 dX3_twice_2_2 rfl ar_32 hl ?_
  refine x_vi (congrArg nI hlen) ?_
  refine x_imuln 2 cap 4 dX3_twice_2_3 rfl rfl rfl ?_
  refine x_newaJ (m := 2 * cap) 6 32 (G.n0 + T.nc) dX3_twice_2_4 rfl wA_long ar_32 (by omega) (had _) hc hs ?_
  refine x_astore_n 7 [(1, .ref (T.ad 2 0)), (1, .ref (T.ad 32 jx)), (1, .ref (T.ad 32 (G.n0 + T.nc)))] dX3_twice_2_6 rfl (by decide) rfl ?_
  refine x_aload_n 8 dX3_twice_2_7 rfl rfl ?_
  refine x_iconst (v := 0) 9 dX3_twice_2_8 rfl rfl ?_
  refine x_aload_n 10 dX3_twice_2_9 rfl rfl ?_
  refine x_iconst (v := 0) 11 dX3_twice_2_10 rfl rfl ?_
  refine x_aload_n 12 dX3_twice_2_11 rfl rfl ?_
  refine x_alen (T := T.add 32 (G.n0 + T.nc) (2 * cap) (2 * cap)) 13 dX3_twice_2_12 rfl ar_32 (Or.inr hl) ?_
  refine x_vi (congrArg nI ((xT.add_len_n hne).trans hlen)) ?_
  refine x_copyl (T := T.add 32 (G.n0 + T.nc) (2 * cap) (2 * cap)) (sp := 0) (dp := 0) (m := cap) 16 dX3_twice_2_13 rfl cp_X3_31 ar_32 ar_32 (Or.inr hl) (Or.inl ⟨rfl, rfl⟩) (by decide) (by omega) (xst (Nat.le_of_ble_eq_true rfl)) ⟨by omega, by omega, by omega⟩ (by rw [xT.add_len_n hne]; omega) (by rw [xT.add_len]; omega) ?_
  rw [xur_xur]
  have e : va_cpy (xur J 32 (G.n0 + T.nc) (fun _ => 0) 32 jx) (xur J 32 (G.n0 + T.nc) (fun _ => 0) 32 (G.n0 + T.nc)) 0 0 cap = fun k => if k < cap then J 32 jx k else 0 := by
    funext k
    unfold va_cpy
    rw [xur_n hne, xur_eq]
    by_cases h : k < cap
    · rw [if_pos (by omega), if_pos h]; congr 1; omega
    · rw [if_neg (by omega), if_neg h]
  rw [e]
  refine x_aload_n 17 dX3_twice_2_16 rfl rfl ?_
  refine x_areturn dX3_twice_2_17 rfl (Or.inr ⟨_, rfl⟩) ?_
  exact hq hfr
