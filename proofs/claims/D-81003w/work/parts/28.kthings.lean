set_option maxRecDepth 100000
section KTH
variable {I F : xI} {J : xJ} {R : xR} {T : xT} {A t : xI} {C u : xR} {x : kX} {v : kV} {th : List xTh} {cap jk jo jf js jr jw n : Nat} {g oa w o : Int32} {p q : Int64}
theorem TH0.kr (h : TH0 u T cap jk jo jf js jr jw) : TH0 (kR C u) T cap jk jo jf js jr jw := h
theorem thAt_kI {k : Nat} : thAt (kI A t) J jk jo jf js jr jw k = thAt t J jk jo jf js jr jw k := rfl
theorem thL_kI : thL (kI A t) J jk jo jf js jr jw n = thL t J jk jo jf js jr jw n := thL_eq fun _ _ => rfl
theorem kI_ext (h : ∀ c, c ≠ 2 → c ≠ 31 → F c = A c) : F = kI A F := by
  funext c
  by_cases h2 : c = 2
  · subst h2; rfl
  · by_cases h31 : c = 31
    · subst h31; rfl
    · rw [kI_of h2 h31, h c h2 h31]
theorem kR_ext (h : ∀ c, c ≠ 2 → R c = C c) : R = kR C R := by
  funext c
  by_cases h2 : c = 2
  · subst h2; rfl
  · rw [kR_of h2, h c h2]
noncomputable def thMetL (th : List xTh) (g a : Int32) (x y : Int64) (w : Int32) : Int32 := th.foldl (fun m t => thM1 t g a x y w m) 0
theorem thMet_L : thMet (thAt I J jk jo jf js jr jw) g oa p q w n = thMetL (thL I J jk jo jf js jr jw n) g oa p q w := by
  induction n with
  | zero => rfl
  | succ n ih => rw [thL_succ]; unfold thMetL at ih ⊢; rw [List.foldl_append, ← ih]; rfl
def thIsB (g a : Int32) (x y : Int64) (t : xTh) : Bool := decide (t.1 = g) && (decide (t.2.1 = a) && (decide (t.2.2.1 = x) && decide (t.2.2.2.1 = y)))
theorem thIsB_t {t : xTh} : thIsB g oa p q t = true ↔ thIs t g oa p q := by
  unfold thIsB thIs; simp
/-- where a thing is among the things; behind them if it isn't there -/
def thIx (th : List xTh) (g a : Int32) (x y : Int64) : Nat := th.findIdx (thIsB g a x y)
def thAdd (th : List xTh) (g a : Int32) (x y : Int64) : List xTh := if thIx th g a x y = th.length then th ++ [(g, a, x, y, 0, -1)] else th
theorem thL_get {k : Nat} (hk : k < n) : (thL I J jk jo jf js jr jw n)[k]? = some (thAt I J jk jo jf js jr jw k) := by
  unfold thL; rw [List.getElem?_map, List.getElem?_range hk]; rfl
theorem thIx_is {k : Nat} (h : thL I J jk jo jf js jr jw n = th) (hk : k < n) (h1 : thIs (thAt I J jk jo jf js jr jw k) g oa p q) (h2 : ∀ j, j < k → ¬ thIs (thAt I J jk jo jf js jr jw j) g oa p q) : thIx th g oa p q = k := by
  have hl : th.length = n := by rw [← h, thL_len]
  have e1 : th[k]'(by omega) = thAt I J jk jo jf js jr jw k := by
    have := thL_get (I := I) (J := J) (jk := jk) (jo := jo) (jf := jf) (js := js) (jr := jr) (jw := jw) hk
    rw [h, List.getElem?_eq_getElem (by omega)] at this
    exact Option.some.inj this
  refine (List.findIdx_eq (by omega)).mpr ⟨by rw [e1]; exact thIsB_t.mpr h1, fun j hj => ?_⟩
  have e2 : th[j]'(by omega) = thAt I J jk jo jf js jr jw j := by
    have := thL_get (I := I) (J := J) (jk := jk) (jo := jo) (jf := jf) (js := js) (jr := jr) (jw := jw) (show j < n by omega)
    rw [h, List.getElem?_eq_getElem (by omega)] at this
    exact Option.some.inj this
  rw [e2]
  exact Bool.eq_false_iff.mpr fun hh => h2 j hj (thIsB_t.mp hh)
theorem thIx_no (h : thL I J jk jo jf js jr jw n = th) (h2 : ∀ j, j < n → ¬ thIs (thAt I J jk jo jf js jr jw j) g oa p q) : thIx th g oa p q = th.length := by
  refine List.findIdx_eq_length.mpr fun t ht => ?_
  rw [← h] at ht
  unfold thL at ht
  obtain ⟨j, hj, rfl⟩ := List.mem_map.mp ht
  exact Bool.eq_false_iff.mpr fun hh => h2 j (List.mem_range.mp hj) (thIsB_t.mp hh)
theorem KT.jfr (h : KT x v th) : ∀ c, c ≠ 32 → v.J c = x.J0 c := h.2.2.1
theorem KT.adr (h : KT x v th) : ∀ y, x.ad 31 y = y ∧ x.ad 32 y = y := h.2.2.2.1
/-- the hidden part over another list of things in the same rows -/
theorem KT.set {t' : xI} {J' : xJ} {th' : List xTh} (h : KT x v th) (hJ : ∀ c, c ≠ 32 → J' c = v.J c)
    (hh : ∀ cap jk jo jf js jr jw, TH0 v.u (kT x v) cap jk jo jf js jr jw → v.t 2 0 0 = nI th.length → th.length ≤ cap → thL v.t v.J jk jo jf js jr jw th.length = th → t' 2 0 0 = nI th'.length ∧ th'.length ≤ cap ∧ thL t' J' jk jo jf js jr jw th'.length = th') : KT x (t', J', v.u, v.lv, v.len, v.nc, v.ns) th' := by
  obtain ⟨h1, h2, h3, h4, h5, g, cap, jk, jo, jf, js, jr, jw, ht, hm, hl, hth, hg⟩ := h
  obtain ⟨e1, e2, e3⟩ := hh cap jk jo jf js jr jw ht hm hl hth
  exact ⟨h1, h2, fun c hc => (hJ c hc).trans (h3 c hc), h4, h5, g, cap, jk, jo, jf, js, jr, jw, ht, e1, e2, e3, hg⟩
end KTH
section KTC
variable {G : xG} {n : Nat} {Q : Outcome → xS → Prop} {A : xI} {C : xR} {x : kX} {v : kV} {th : List xTh} {g oa w o : Int32} {p q : Int64}
theorem k_X3_met (hT : KT x v th) (h16 : th.length < 32768) (hn : 2 ≤ n) (hq : Q (.returned (some (.int (thBut (thMetL th g oa p q w) o)))) (kS A C x v)) :
    xCall G mX3_met n [.ref (x.ad 2 0), .int g, .int oa, .long p, .long q, .int w, .int o] (kS A C x v) Q := by
  obtain ⟨h1, h2, h3, h4, h5, g', cap, jk, jo, jf, js, jr, jw, ht, hm, hl, hth, hg⟩ := hT
  refine c0_X3_met (T := kT x v) (I := kI A v.t) (J := v.J) h1 (ht.kr (C := C)) hl hm hn ?_
  rw [thMet_L, thL_kI, hth]
  exact hq
theorem k_X3_hasTree (hT : KT x v th) (hn : 1 ≤ n) (hq : Q (.returned (some (.int (b2i (∃ t ∈ th, thTree t w))))) (kS A C x v)) :
    xCall G mX3_hasTree n [.ref (x.ad 2 0), .int w] (kS A C x v) Q := by
  obtain ⟨h1, h2, h3, h4, h5, g', cap, jk, jo, jf, js, jr, jw, ht, hm, hl, hth, hg⟩ := hT
  refine c0_X3_hasTree (T := kT x v) (I := kI A v.t) (J := v.J) h1 (ht.kr (C := C)) hl hm hn ?_
  have e : (∃ k, k < th.length ∧ thTree (thAt (kI A v.t) v.J jk jo jf js jr jw k) w) ↔ ∃ t ∈ th, thTree t w := by
    constructor
    · rintro ⟨k, hk, h⟩
      refine ⟨thAt v.t v.J jk jo jf js jr jw k, ?_, h⟩
      rw [← hth]; exact List.mem_map.mpr ⟨k, List.mem_range.mpr hk, rfl⟩
    · rintro ⟨t, htm, h⟩
      rw [← hth] at htm
      obtain ⟨k, hk, rfl⟩ := List.mem_map.mp htm
      exact ⟨k, List.mem_range.mp hk, h⟩
  rw [b2i_iff e]
  exact hq
theorem kCap {c g : Nat} (e : c = 64 * 2 ^ g) (h : c < 16384) : g ≤ 7 := by
  apply Classical.byContradiction
  intro hg
  have := Nat.pow_le_pow_right (n := 2) (by decide) (show 8 ≤ g by omega)
  omega
theorem k_X3_find (hT : KT x v th) (h16 : th.length < 16384) (hn : 2 ≤ n) (hq : ∀ v' : kV, KT x v' (thAdd th g oa p q) → Q (.returned (some (.int (nI (thIx th g oa p q))))) (kS A C x v')) :
    xCall G mX3_find n [.ref (x.ad 2 0), .int g, .int oa, .long p, .long q] (kS A C x v) Q := by
  have hT0 := hT
  obtain ⟨h1, h2, h3, h4, h5, g', cap, jk, jo, jf, js, jr, jw, ht, hm, hl, hth, hg1, hg2, hg3, hg4, hg5⟩ := hT
  have hp1 : 2 ^ x.g0 ≥ 1 := Nat.one_le_two_pow
  have hp9 : 2 ^ g' ≤ 2 ^ 9 := Nat.pow_le_pow_right (by decide) hg3
  have hp92 : (2 : Nat) ^ 9 = 512 := by decide
  have hpw : 2 ^ (g' + 1) = 2 * 2 ^ g' := by rw [Nat.pow_succ, Nat.mul_comm]
  refine c0_X3_find (T := kT x v) (I := kI A v.t) (J := v.J) h1 (ht.kr (C := C)) hl hm h4 (by omega) (by show v.nc + 6 ≤ _; omega) (by show v.ns + 12 * cap ≤ _; omega) hn ?_ ?_
  · intro k hk hi hno
    have e := thIx_is (I := v.t) (J := v.J) hth hk hi hno
    have := hq v (by unfold thAdd; rw [if_neg (by rw [e]; omega)]; exact hT0)
    rw [e] at this
    exact this
  · intro hno I' J' R' T' cap' jk' jo' jf' js' jr' jw' ht' hlt hthe hm' hI hJ hR hsh
    have e := thIx_no (I := v.t) (J := v.J) hth hno
    have eA : thAdd th g oa p q = th ++ [(g, oa, p, q, 0, -1)] := by unfold thAdd; rw [if_pos e]
    rw [e, eA] at hq
    obtain ⟨F, hF⟩ : ∃ F, F = xu (xu (xu (xu (xu I' 31 jk' th.length g) 31 jo' th.length oa) 31 jr' th.length 0) 31 jw' th.length (-1)) 2 0 0 (nI (th.length + 1)) := ⟨_, rfl⟩
    obtain ⟨F2, hF2⟩ : ∃ F, F = xu (xu J' 32 jf' th.length p) 32 js' th.length q := ⟨_, rfl⟩
    rw [← hF, ← hF2]
    obtain ⟨lv', len', ad', nc', ns'⟩ := T'
    have hfr : thFr (kI A v.t) v.J F F2 := by
      rw [hF, hF2]; exact (thFr.i (thFr.i (thFr.i (thFr.i ⟨hI, hJ⟩)))).m.j.j
    have eF : F = kI A F := kI_ext fun c h2 h31 => (hfr.1 c h2 h31).trans (kI_of h2 h31 _ _)
    have eR : R' = kR C R' := kR_ext fun c h2 => (hR c h2).trans (kR_of h2 _ _)
    have had : ad' = x.ad := by
      rcases hsh with ⟨_, hs⟩ | ⟨_, _, hs⟩
      · exact congrArg xT.ad hs
      · exact hs.1
    subst had
    have hL1 : thL F F2 jk' jo' jf' js' jr' jw' (th.length + 1) = th ++ [(g, oa, p, q, 0, -1)] := by
      rw [thL_succ]
      have a1 : thL F F2 jk' jo' jf' js' jr' jw' th.length = th := by
        rw [← hth, thL_len]
        refine thL_eq fun k hk => ?_
        have hk2 : k ≠ th.length := by omega
        refine Eq.trans ?_ (hthe k hk)
        rw [hF, hF2]
        have := th_oth (I := I') (J := J') (jk := jk') (jo := jo') (jf := jf') (js := js') (jr := jr') (jw := jw') (v1 := g) (v2 := oa) (v3 := p) (v4 := q) (v5 := 0) (v6 := -1) hk2
        unfold thAt at this ⊢
        rw [xu_c (c := 2) (by decide), xu_c (c := 2) (by decide), xu_c (c := 2) (by decide), xu_c (c := 2) (by decide)]
        exact this
      have a2 : thAt F F2 jk' jo' jf' js' jr' jw' th.length = (g, oa, p, q, 0, -1) := by
        rw [hF, hF2]
        have := th_put (I := I') (J := J') (t := th.length) (v1 := g) (v2 := oa) (v3 := p) (v4 := q) (v5 := 0) (v6 := -1) ht'
        unfold thAt at this ⊢
        rw [xu_c (c := 2) (by decide), xu_c (c := 2) (by decide), xu_c (c := 2) (by decide), xu_c (c := 2) (by decide)]
        exact this
      rw [a1, a2]
    have hlen : (th ++ [((g, oa, p, q, 0, -1) : xTh)]).length = th.length + 1 := by simp
    have K : KT x (F, F2, R', lv', len', nc', ns') (th ++ [(g, oa, p, q, 0, -1)]) := by
      have hJF : ∀ c, c ≠ 32 → F2 c = x.J0 c := fun c hc => (hfr.2 c hc).trans (h3 c hc)
      rcases hsh with ⟨rfl, hs⟩ | ⟨hcn, hc2, hs⟩
      · cases hs
        refine ⟨h1, h2, hJF, h4, h5, g', cap', jk', jo', jf', js', jr', jw', ht', ?_, by rw [hlen]; omega, by rw [hlen]; exact hL1, hg1, hg2, hg3, hg4, hg5⟩
        show F 2 0 0 = _
        rw [hF, xu_eq, hlen]
      · have hg7 := kCap hg1 (by omega)
        refine ⟨h1.grow (fun c a1 a2 => hs.2.2.2.2 c a1 a2), fun c a1 a2 => ⟨(hs.2.2.2.2 c a1 a2).1.trans (h2 c a1 a2).1, (hs.2.2.2.2 c a1 a2).2.trans (h2 c a1 a2).2⟩, hJF, h4, h5, g' + 1, cap', jk', jo', jf', js', jr', jw', ht', ?_, by rw [hlen]; omega, by rw [hlen]; exact hL1, by rw [hc2, hpw]; omega, by omega, by omega, ?_, ?_⟩
        · show F 2 0 0 = _
          rw [hF, xu_eq, hlen]
        · show nc' + 6 * x.g0 = _
          have : nc' = v.nc + 6 := hs.2.1
          omega
        · show ns' + 768 * 2 ^ x.g0 = _
          have : ns' = v.ns + 12 * cap := hs.2.2.1
          rw [hpw]; omega
    have := hq (F, F2, R', lv', len', nc', ns') K
    have e2 : kS A C x (F, F2, R', lv', len', nc', ns') = (F, F2, R', x.Z, (lv', len', x.ad, nc', ns')) := by
      show (kI A F, F2, kR C R', x.Z, _) = _
      rw [← eF, ← eR]
    rw [e2] at this
    exact this
theorem kS_set {t' : xI} {J' : xJ} (h : thFr (kI A v.t) v.J t' J') : kS A C x (t', J', v.u, v.lv, v.len, v.nc, v.ns) = (t', J', kR C v.u, x.Z, kT x v) := by
  show (kI A t', J', kR C v.u, x.Z, _) = _
  rw [← kI_ext fun c h2 h31 => (h.1 c h2 h31).trans (kI_of h2 h31 _ _)]
theorem thL_len' {I : xI} {J : xJ} {jk jo jf js jr jw n : Nat} {l : List xTh} (h : thL I J jk jo jf js jr jw n = l) : n = l.length := by rw [← h, thL_len]
theorem k_X3_sweep (hT : KT x v th) (hn : 1 ≤ n) (hq : ∀ v' : kV, KT x v' (th.filter thKeep) → Q (.returned none) (kS A C x v')) :
    xCall G mX3_sweep n [.ref (x.ad 2 0)] (kS A C x v) Q := by
  have hT0 := hT
  obtain ⟨h1, h2, h3, h4, h5, g', cap, jk, jo, jf, js, jr, jw, ht, hm, hl, hth, hg⟩ := hT
  refine c0_X3_sweep (T := kT x v) (I := kI A v.t) (J := v.J) h1 (ht.kr (C := C)) hl hm hn ?_
  intro t' J' k hfr hm' hk hL
  rw [thL_kI, hth] at hL
  have hk2 := thL_len' hL
  have K : KT x (t', J', v.u, v.lv, v.len, v.nc, v.ns) (th.filter thKeep) := ⟨h1, h2, fun c hc => (hfr.2 c hc).trans (h3 c hc), h4, h5, g', cap, jk, jo, jf, js, jr, jw, ht, by rw [← hk2]; exact hm', by omega, by rw [← hk2]; exact hL, hg⟩
  have := hq _ K
  rw [kS_set hfr] at this
  exact this
theorem k_X3_drop (hT : KT x v th) (hn : 1 ≤ n) (hq : ∀ v' : kV, KT x v' (th.map (thDrop g oa)) → Q (.returned none) (kS A C x v')) :
    xCall G mX3_drop n [.ref (x.ad 2 0), .int g, .int oa] (kS A C x v) Q := by
  have hT0 := hT
  obtain ⟨h1, h2, h3, h4, h5, g', cap, jk, jo, jf, js, jr, jw, ht, hm, hl, hth, hg⟩ := hT
  refine c0_X3_drop (T := kT x v) (I := kI A v.t) (J := v.J) h1 (ht.kr (C := C)) hl hm hn ?_
  intro t' hfr hm' hL
  rw [thL_kI, hth] at hL
  have hlen : (th.map (thDrop g oa)).length = th.length := by simp
  have K : KT x (t', v.J, v.u, v.lv, v.len, v.nc, v.ns) (th.map (thDrop g oa)) := ⟨h1, h2, h3, h4, h5, g', cap, jk, jo, jf, js, jr, jw, ht, by rw [hlen]; exact hm', by rw [hlen]; exact hl, by rw [hlen]; exact hL, hg⟩
  have := hq _ K
  rw [kS_set hfr] at this
  exact this
/-- a group ends: its marks go -/
def thEnd (th : List xTh) (w : Int32) : List xTh := (th.map (thEnd1 w)).filter thKeep
theorem k_X3_end (hT : KT x v th) (hn : 2 ≤ n) (hq : ∀ v' : kV, KT x v' (thEnd th w) → Q (.returned none) (kS A C x v')) :
    xCall G mX3_end n [.ref (x.ad 2 0), .int w] (kS A C x v) Q := by
  have hT0 := hT
  obtain ⟨h1, h2, h3, h4, h5, g', cap, jk, jo, jf, js, jr, jw, ht, hm, hl, hth, hg⟩ := hT
  refine c0_X3_end (T := kT x v) (I := kI A v.t) (J := v.J) h1 (ht.kr (C := C)) hl hm hn ?_
  intro t' J' k hfr hm' hk hL
  rw [thL_kI, hth] at hL
  have hk2 := thL_len' hL
  have K : KT x (t', J', v.u, v.lv, v.len, v.nc, v.ns) (thEnd th w) := ⟨h1, h2, fun c hc => (hfr.2 c hc).trans (h3 c hc), h4, h5, g', cap, jk, jo, jf, js, jr, jw, ht, by unfold thEnd; rw [← hk2]; exact hm', by unfold thEnd; omega, by unfold thEnd; rw [← hk2]; exact hL, hg⟩
  have := hq _ K
  rw [kS_set hfr] at this
  exact this
end KTC
