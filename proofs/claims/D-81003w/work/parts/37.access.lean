set_option maxRecDepth 100000
/-! access -/
def thMod (f : xTh → xTh) : List xTh → Nat → List xTh
  | [], _ => []
  | t :: r, 0 => f t :: r
  | t :: r, k + 1 => t :: thMod f r k
theorem thMod_len {f : xTh → xTh} : ∀ (l : List xTh) (k : Nat), (thMod f l k).length = l.length
  | [], _ => rfl
  | _ :: _, 0 => rfl
  | _ :: r, k + 1 => congrArg (· + 1) (thMod_len r k)
theorem thMod_get {f : xTh → xTh} : ∀ (l : List xTh) (k j : Nat), (thMod f l k)[j]? = if j = k then (l[j]?).map f else l[j]?
  | [], k, j => by simp [thMod]
  | t :: r, 0, 0 => by simp [thMod]
  | t :: r, 0, j + 1 => by simp [thMod]
  | t :: r, k + 1, 0 => by simp [thMod]
  | t :: r, k + 1, j + 1 => by simpa [thMod] using thMod_get r k j
def thW (l : List xTh) (k : Nat) : Int32 := (l.getD k (0, 0, 0, 0, 0, 0)).2.2.2.2.2
def thRd (w : Int32) (t : xTh) : xTh := (t.1, t.2.1, t.2.2.1, t.2.2.2.1, t.2.2.2.2.1 ||| ((1 : Int32) <<< (w &&& 31)), t.2.2.2.2.2)
def thWr (w : Int32) (t : xTh) : xTh := (t.1, t.2.1, t.2.2.1, t.2.2.2.1, t.2.2.2.2.1, w)
theorem thOK.mod {f : xTh → xTh} {N : Nat} (hf : ∀ t, (f t).1 = t.1 ∧ (f t).2.1 = t.2.1) : ∀ {l : List xTh} {k : Nat}, thOK l N → thOK (thMod f l k) N
  | [], _, h => h
  | t :: r, 0, h => fun t' ht' => by
      rcases List.mem_cons.mp ht' with e | e
      · rw [e, (hf t).1, (hf t).2]; exact h t (List.mem_cons_self ..)
      · exact h t' (List.mem_cons_of_mem _ e)
  | t :: r, k + 1, h => fun t' ht' => by
      rcases List.mem_cons.mp ht' with e | e
      · rw [e]; exact h t (List.mem_cons_self ..)
      · exact thOK.mod hf (l := r) (k := k) (fun a ha => h a (List.mem_cons_of_mem _ ha)) t' e
section KTM
variable {x : kX} {v : kV} {th : List xTh} {g cap jk jo jf js jr jw k : Nat} {w : Int32} {A t : xI}
theorem thW_at (hl : thL v.t v.J jk jo jf js jr jw th.length = th) (hk : k < th.length) : v.t 31 jw k = thW th k := by
  have e := thL_get (I := v.t) (J := v.J) (jk := jk) (jo := jo) (jf := jf) (js := js) (jr := jr) (jw := jw) hk
  rw [hl] at e
  unfold thW
  rw [List.getD_eq_getElem?_getD, e]
  rfl
theorem KT.mod {f : xTh → xTh} {t' : xI} (hT : KT x v th) (ht : TH0 v.u (kT x v) cap jk jo jf js jr jw) (hmn : v.t 2 0 0 = nI th.length) (hle : th.length ≤ cap) (hl : thL v.t v.J jk jo jf js jr jw th.length = th)
    (hg : cap = 64 * 2 ^ g ∧ x.g0 ≤ g ∧ g ≤ 9 ∧ v.nc + 6 * x.g0 = x.T0.nc + 6 * g ∧ v.ns + 768 * 2 ^ x.g0 = x.T0.ns + 768 * 2 ^ g) (h2 : t' 2 0 0 = v.t 2 0 0)
    (h1 : thAt t' v.J jk jo jf js jr jw k = f (thAt v.t v.J jk jo jf js jr jw k)) (ho : ∀ q, q ≠ k → thAt t' v.J jk jo jf js jr jw q = thAt v.t v.J jk jo jf js jr jw q) : KT x (t', v.J, v.u, v.lv, v.len, v.nc, v.ns) (thMod f th k) := by
  refine ⟨hT.1, hT.2.1, hT.2.2.1, hT.2.2.2.1, hT.2.2.2.2.1, g, cap, jk, jo, jf, js, jr, jw, ht, ?_, ?_, ?_, hg⟩
  · rw [thMod_len]; exact h2.trans hmn
  · rw [thMod_len]; exact hle
  · rw [thMod_len]
    apply List.ext_getElem?
    intro j
    rw [thMod_get]
    by_cases hj : j < th.length
    · rw [thL_get hj]
      have e := thL_get (I := v.t) (J := v.J) (jk := jk) (jo := jo) (jf := jf) (js := js) (jr := jr) (jw := jw) hj
      rw [hl] at e
      rw [e]
      by_cases q : j = k
      · rw [if_pos q, q, h1]; rfl
      · rw [if_neg q, ho j q]
    · rw [List.getElem?_eq_none (by rw [thL_len]; omega)]
      have e : th[j]? = none := List.getElem?_eq_none (by omega)
      rw [e]; split <;> rfl
theorem kI_xt {j : Nat} : xu (kI A t) 31 j k w = kI A (xu t 31 j k w) := by
  funext c i q
  by_cases e : c = 31
  · subst e; rfl
  · rw [xu_c e]
    by_cases e2 : c = 2
    · subst e2; show t 2 i q = xu t 31 j k w 2 i q; exact (xu_c (by decide)).symm
    · rw [kI_of e2 e, kI_of e2 e]
theorem k_row {G : xG} {M : xM} {n a b : Nat} {Q : Outcome → xS → Prop} {pc : Nat} {L : List (Nat × Value)} {st : List Value} {C : xR} {j : Nat} (kk : ∀ v' : kV, v' = (xu v.t 31 j k w, v.J, v.u, v.lv, v.len, v.nc, v.ns) → X G M n a b Q (kS A C x v') pc L st) : X G M n a b Q (xu (kI A v.t) 31 j k w, v.J, kR C v.u, x.Z, kT x v) pc L st := by
  rw [kI_xt]; exact kk _ rfl
end KTM
theorem thIx_le {th : List xTh} {g a : Int32} {x y : Int64} : thIx th g a x y ≤ th.length := List.findIdx_le_length
theorem thIx_lt {th : List xTh} {g a : Int32} {x y : Int64} : thIx th g a x y < (thAdd th g a x y).length := by
  have := thIx_le (th := th) (g := g) (a := a) (x := x) (y := y)
  unfold thAdd; split
  · next e => rw [e, List.length_append]; exact Nat.lt_succ_self _
  · omega
theorem thAdd_len {th : List xTh} {g a : Int32} {x y : Int64} : (thAdd th g a x y).length ≤ th.length + 1 := by
  unfold thAdd; split
  · rw [List.length_append]; exact Nat.le_refl _
  · omega
theorem thOK.add {th : List xTh} {g a : Int32} {x y : Int64} {N : Nat} (h : thOK th N) (ha : a = nI (iN a) ∧ kOf g (iN a) N) : thOK (thAdd th g a x y) N := by
  unfold thAdd; split
  · intro t ht
    rcases List.mem_append.mp ht with e | e
    · exact h t e
    · rw [List.mem_singleton.mp e]; exact ha
  · exact h
abbrev kO : Type := Int32 × kK
noncomputable def kMeet (s : kK) (g a : Int32) (x y : Int64) (w : Int32) : Int32 :=
  if s.1 0 0 22 = -1 then thBut (thMetL s.2.2 g a x y w) (s.1 0 0 21) else thBut (thMetL s.2.2 g a x y w) (s.1 0 0 21) &&& (((1 : Int32) <<< (s.1 0 0 22 &&& 31)) ^^^ (-1))
/-- a thing is marked as read or written -/
def kMark (s : kK) (g a : Int32) (x y : Int64) (w : Int32) : kK :=
  if s.1 0 0 21 = 16 ∧ w = 0 then s
  else if ¬ s.1 0 0 22 = -1 ∧ thW (thAdd s.2.2 g a x y) (thIx s.2.2 g a x y) = s.1 0 0 22 then (s.1, s.2.1, thAdd s.2.2 g a x y)
  else if w = 0 then (s.1, s.2.1, thMod (thRd (s.1 0 0 21)) (thAdd s.2.2 g a x y) (thIx s.2.2 g a x y))
  else if thW (thAdd s.2.2 g a x y) (thIx s.2.2 g a x y) = s.1 0 0 21 then (s.1, s.2.1, thAdd s.2.2 g a x y)
  else (kSave s.1 g (iN a), s.2.1, thMod (thWr (s.1 0 0 21)) (thAdd s.2.2 g a x y) (thIx s.2.2 g a x y))
def kOlder (s : kK) (m : Int32) (me : Nat) : Prop := ∃ p, p < 16 ∧ kBit m p = 1 ∧ ¬ s.1 9 me 9 ≤ s.1 9 p 9
def kRefuse (s : kK) (c : Int32) : kO := (c, (xu s.1 3 0 0 c, s.2.1, s.2.2))
noncomputable def kAccess (N : Nat) (s : kK) (me : Nat) (g a : Int32) (x y : Int64) (w : Int32) : kO :=
  if kMeet s g a x y w = 0 then (0, kMark s g a x y w)
  else if s.1 0 0 21 = 16 then kRefuse s (-8)
  else cif (kOlder s (kMeet s g a x y w) me) (kRefuse s (-9)) (0, kMark (kAbAll N (kMeet s g a x y w) s) g a x y w)
/-- a call comes back, or is refused -/
def kOut (Q : Outcome → xS → Prop) (x : kX) (r : kO) (ret : Option Value) : Prop :=
  (r.1 = 0 → ∀ v' : kV, KT x v' r.2.2.2 → Q (.returned ret) (kS r.2.1 r.2.2.1 x v')) ∧ (¬ r.1 = 0 → ∀ v' : kV, KT x v' r.2.2.2 → Q (.threw (x.ad 3 0)) (kS r.2.1 r.2.2.1 x v'))
theorem KI.mark {s : kK} {N m : Nat} {g a : Int32} {x y : Int64} {w : Int32} (h : KI s N m) (ha : a = nI (iN a) ∧ kOf g (iN a) N) : KI (kMark s g a x y w) N (m + 1) := by
  have hl : (thAdd s.2.2 g a x y).length ≤ m + 1 := Nat.le_trans thAdd_len (Nat.add_le_add_right h.ln 1)
  unfold kMark
  split
  · exact ⟨h.wf, h.rf, h.ok, h.nm, Nat.le_succ_of_le h.ln⟩
  · split
    · exact ⟨h.wf, h.rf, h.ok.add ha, h.nm, hl⟩
    · split
      · exact ⟨h.wf, h.rf, thOK.mod (f := thRd (s.1 0 0 21)) (fun _ => ⟨rfl, rfl⟩) (h.ok.add ha), h.nm, by rw [thMod_len]; exact hl⟩
      · split
        · exact ⟨h.wf, h.rf, h.ok.add ha, h.nm, hl⟩
        · exact ⟨h.wf.save, h.rf, thOK.mod (f := thWr (s.1 0 0 21)) (fun _ => ⟨rfl, rfl⟩) (h.ok.add ha), h.nm.fx fx_kSave, by rw [thMod_len]; exact hl⟩
theorem sx_mark {s : kK} {g a : Int32} {x y : Int64} {w : Int32} : kSx s (kMark s g a x y w) := by
  unfold kMark
  split
  · exact kSx.rfl
  · split
    · exact kSx.rfl
    · split
      · exact kSx.rfl
      · split
        · exact kSx.rfl
        · exact ⟨fx_kSave, kCx.rfl⟩
theorem sx_access {N : Nat} {s : kK} {me : Nat} {g a : Int32} {x y : Int64} {w : Int32} : kSx s (kAccess N s me g a x y w).2 := by
  unfold kAccess
  split
  · exact sx_mark
  · split
    · exact ⟨kFx.rfl.u rfl, kCx.rfl⟩
    · by_cases e : kOlder s (kMeet s g a x y w) me
      · rw [cif_t e]; exact ⟨kFx.rfl.u rfl, kCx.rfl⟩
      · rw [cif_f e]; exact sx_abAll.trans sx_mark
theorem KI.le {s : kK} {N m m' : Nat} (h : KI s N m) (hm : m ≤ m') : KI s N m' := ⟨h.wf, h.rf, h.ok, h.nm, Nat.le_trans h.ln hm⟩
theorem KI.access {s : kK} {N m me : Nat} {g a : Int32} {x y : Int64} {w : Int32} (h : KI s N m) (ha : a = nI (iN a) ∧ kOf g (iN a) N) : KI (kAccess N s me g a x y w).2 N (m + 1) := by
  unfold kAccess
  split
  · exact h.mark ha
  · split
    · exact (h.u rfl rfl).le (Nat.le_succ m)
    · by_cases e : kOlder s (kMeet s g a x y w) me
      · rw [cif_t e]; exact (h.u rfl rfl).le (Nat.le_succ m)
      · rw [cif_f e]; exact h.abAll.mark ha
theorem dX1_access_0 : decode cX1_access 0 = .ok (.aload_n 0, 1) := by decide +kernel
theorem dX1_access_1 : decode cX1_access 1 = .ok (.getfield 46, 3) := by decide +kernel
theorem dX1_access_4 : decode cX1_access 4 = .ok (.iload_n 1, 1) := by decide +kernel
theorem dX1_access_5 : decode cX1_access 5 = .ok (.iload_n 2, 1) := by decide +kernel
theorem dX1_access_6 : decode cX1_access 6 = .ok (.lload_n 3, 1) := by decide +kernel
theorem dX1_access_7 : decode cX1_access 7 = .ok (.lload 5, 2) := by decide +kernel
theorem dX1_access_9 : decode cX1_access 9 = .ok (.iload 7, 2) := by decide +kernel
theorem dX1_access_11 : decode cX1_access 11 = .ok (.aload_n 0, 1) := by decide +kernel
theorem dX1_access_12 : decode cX1_access 12 = .ok (.getfield 291, 3) := by decide +kernel
theorem dX1_access_15 : decode cX1_access 15 = .ok (.invokevirtual 360, 3) := by decide +kernel
theorem dX1_access_18 : decode cX1_access 18 = .ok (.istore 8, 2) := by decide +kernel
theorem dX1_access_20 : decode cX1_access 20 = .ok (.aload_n 0, 1) := by decide +kernel
theorem dX1_access_21 : decode cX1_access 21 = .ok (.getfield 67, 3) := by decide +kernel
theorem dX1_access_24 : decode cX1_access 24 = .ok (.iconst (-1), 1) := by decide +kernel
theorem dX1_access_25 : decode cX1_access 25 = .ok (.if_icmp .eq 16, 3) := by decide +kernel
theorem dX1_access_28 : decode cX1_access 28 = .ok (.iload 8, 2) := by decide +kernel
theorem dX1_access_30 : decode cX1_access 30 = .ok (.iconst 1, 1) := by decide +kernel
theorem dX1_access_31 : decode cX1_access 31 = .ok (.aload_n 0, 1) := by decide +kernel
theorem dX1_access_32 : decode cX1_access 32 = .ok (.getfield 67, 3) := by decide +kernel
theorem dX1_access_35 : decode cX1_access 35 = .ok (.ishl, 1) := by decide +kernel
theorem dX1_access_36 : decode cX1_access 36 = .ok (.iconst (-1), 1) := by decide +kernel
theorem dX1_access_37 : decode cX1_access 37 = .ok (.ixor, 1) := by decide +kernel
theorem dX1_access_38 : decode cX1_access 38 = .ok (.iand, 1) := by decide +kernel
theorem dX1_access_39 : decode cX1_access 39 = .ok (.istore 8, 2) := by decide +kernel
theorem dX1_access_41 : decode cX1_access 41 = .ok (.aload_n 0, 1) := by decide +kernel
theorem dX1_access_42 : decode cX1_access 42 = .ok (.getfield 291, 3) := by decide +kernel
theorem dX1_access_45 : decode cX1_access 45 = .ok (.bipush 16, 2) := by decide +kernel
theorem dX1_access_47 : decode cX1_access 47 = .ok (.if_icmp .ne 18, 3) := by decide +kernel
theorem dX1_access_50 : decode cX1_access 50 = .ok (.iload 8, 2) := by decide +kernel
theorem dX1_access_52 : decode cX1_access 52 = .ok (.ifCond .eq 97, 3) := by decide +kernel
theorem dX1_access_55 : decode cX1_access 55 = .ok (.aload_n 0, 1) := by decide +kernel
theorem dX1_access_56 : decode cX1_access 56 = .ok (.getfield 53, 3) := by decide +kernel
theorem dX1_access_59 : decode cX1_access 59 = .ok (.bipush (-8), 2) := by decide +kernel
theorem dX1_access_61 : decode cX1_access 61 = .ok (.invokevirtual 364, 3) := by decide +kernel
theorem dX1_access_64 : decode cX1_access 64 = .ok (.athrow, 1) := by decide +kernel
theorem dX1_access_65 : decode cX1_access 65 = .ok (.iload 8, 2) := by decide +kernel
theorem dX1_access_67 : decode cX1_access 67 = .ok (.ifCond .eq 82, 3) := by decide +kernel
theorem dX1_access_70 : decode cX1_access 70 = .ok (.aload_n 0, 1) := by decide +kernel
theorem dX1_access_71 : decode cX1_access 71 = .ok (.getfield 39, 3) := by decide +kernel
theorem dX1_access_74 : decode cX1_access 74 = .ok (.astore 9, 2) := by decide +kernel
theorem dX1_access_76 : decode cX1_access 76 = .ok (.aload 9, 2) := by decide +kernel
theorem dX1_access_78 : decode cX1_access 78 = .ok (.arraylength, 1) := by decide +kernel
theorem dX1_access_79 : decode cX1_access 79 = .ok (.istore 10, 2) := by decide +kernel
theorem dX1_access_81 : decode cX1_access 81 = .ok (.iconst 0, 1) := by decide +kernel
theorem dX1_access_82 : decode cX1_access 82 = .ok (.istore 11, 2) := by decide +kernel
theorem dX1_access_84 : decode cX1_access 84 = .ok (.iload 11, 2) := by decide +kernel
theorem dX1_access_86 : decode cX1_access 86 = .ok (.iload 10, 2) := by decide +kernel
theorem dX1_access_88 : decode cX1_access 88 = .ok (.if_icmp .ge 55, 3) := by decide +kernel
theorem dX1_access_91 : decode cX1_access 91 = .ok (.aload 9, 2) := by decide +kernel
theorem dX1_access_93 : decode cX1_access 93 = .ok (.iload 11, 2) := by decide +kernel
theorem dX1_access_95 : decode cX1_access 95 = .ok (.aaload, 1) := by decide +kernel
theorem dX1_access_96 : decode cX1_access 96 = .ok (.astore 12, 2) := by decide +kernel
theorem dX1_access_98 : decode cX1_access 98 = .ok (.iload 8, 2) := by decide +kernel
theorem dX1_access_100 : decode cX1_access 100 = .ok (.aload 12, 2) := by decide +kernel
theorem dX1_access_102 : decode cX1_access 102 = .ok (.getfield 346, 3) := by decide +kernel
theorem dX1_access_105 : decode cX1_access 105 = .ok (.ishr, 1) := by decide +kernel
theorem dX1_access_106 : decode cX1_access 106 = .ok (.iconst 1, 1) := by decide +kernel
theorem dX1_access_107 : decode cX1_access 107 = .ok (.iand, 1) := by decide +kernel
theorem dX1_access_108 : decode cX1_access 108 = .ok (.iconst 1, 1) := by decide +kernel
theorem dX1_access_109 : decode cX1_access 109 = .ok (.if_icmp .ne 28, 3) := by decide +kernel
theorem dX1_access_112 : decode cX1_access 112 = .ok (.aload 12, 2) := by decide +kernel
theorem dX1_access_114 : decode cX1_access 114 = .ok (.getfield 368, 3) := by decide +kernel
theorem dX1_access_117 : decode cX1_access 117 = .ok (.aload_n 0, 1) := by decide +kernel
theorem dX1_access_118 : decode cX1_access 118 = .ok (.getfield 371, 3) := by decide +kernel
theorem dX1_access_121 : decode cX1_access 121 = .ok (.getfield 368, 3) := by decide +kernel
theorem dX1_access_124 : decode cX1_access 124 = .ok (.if_icmp .ge 13, 3) := by decide +kernel
theorem dX1_access_127 : decode cX1_access 127 = .ok (.aload_n 0, 1) := by decide +kernel
theorem dX1_access_128 : decode cX1_access 128 = .ok (.getfield 53, 3) := by decide +kernel
theorem dX1_access_131 : decode cX1_access 131 = .ok (.bipush (-9), 2) := by decide +kernel
theorem dX1_access_133 : decode cX1_access 133 = .ok (.invokevirtual 364, 3) := by decide +kernel
theorem dX1_access_136 : decode cX1_access 136 = .ok (.athrow, 1) := by decide +kernel
theorem dX1_access_137 : decode cX1_access 137 = .ok (.iinc 11 1, 3) := by decide +kernel
theorem dX1_access_140 : decode cX1_access 140 = .ok (.goto (-56), 3) := by decide +kernel
theorem dX1_access_143 : decode cX1_access 143 = .ok (.aload_n 0, 1) := by decide +kernel
theorem dX1_access_144 : decode cX1_access 144 = .ok (.iload 8, 2) := by decide +kernel
theorem dX1_access_146 : decode cX1_access 146 = .ok (.invokevirtual 375, 3) := by decide +kernel
theorem dX1_access_149 : decode cX1_access 149 = .ok (.aload_n 0, 1) := by decide +kernel
theorem dX1_access_150 : decode cX1_access 150 = .ok (.getfield 291, 3) := by decide +kernel
theorem dX1_access_153 : decode cX1_access 153 = .ok (.bipush 16, 2) := by decide +kernel
theorem dX1_access_155 : decode cX1_access 155 = .ok (.if_icmp .ne 9, 3) := by decide +kernel
theorem dX1_access_158 : decode cX1_access 158 = .ok (.iload 7, 2) := by decide +kernel
theorem dX1_access_160 : decode cX1_access 160 = .ok (.ifCond .ne 4, 3) := by decide +kernel
theorem dX1_access_163 : decode cX1_access 163 = .ok (.return_, 1) := by decide +kernel
theorem dX1_access_164 : decode cX1_access 164 = .ok (.aload_n 0, 1) := by decide +kernel
theorem dX1_access_165 : decode cX1_access 165 = .ok (.getfield 46, 3) := by decide +kernel
theorem dX1_access_168 : decode cX1_access 168 = .ok (.iload_n 1, 1) := by decide +kernel
theorem dX1_access_169 : decode cX1_access 169 = .ok (.iload_n 2, 1) := by decide +kernel
theorem dX1_access_170 : decode cX1_access 170 = .ok (.lload_n 3, 1) := by decide +kernel
theorem dX1_access_171 : decode cX1_access 171 = .ok (.lload 5, 2) := by decide +kernel
theorem dX1_access_173 : decode cX1_access 173 = .ok (.invokevirtual 378, 3) := by decide +kernel
theorem dX1_access_176 : decode cX1_access 176 = .ok (.istore 9, 2) := by decide +kernel
theorem dX1_access_178 : decode cX1_access 178 = .ok (.aload_n 0, 1) := by decide +kernel
theorem dX1_access_179 : decode cX1_access 179 = .ok (.getfield 67, 3) := by decide +kernel
theorem dX1_access_182 : decode cX1_access 182 = .ok (.iconst (-1), 1) := by decide +kernel
theorem dX1_access_183 : decode cX1_access 183 = .ok (.if_icmp .eq 21, 3) := by decide +kernel
theorem dX1_access_186 : decode cX1_access 186 = .ok (.aload_n 0, 1) := by decide +kernel
theorem dX1_access_187 : decode cX1_access 187 = .ok (.getfield 46, 3) := by decide +kernel
theorem dX1_access_190 : decode cX1_access 190 = .ok (.getfield 328, 3) := by decide +kernel
theorem dX1_access_193 : decode cX1_access 193 = .ok (.iload 9, 2) := by decide +kernel
theorem dX1_access_195 : decode cX1_access 195 = .ok (.iaload, 1) := by decide +kernel
theorem dX1_access_196 : decode cX1_access 196 = .ok (.aload_n 0, 1) := by decide +kernel
theorem dX1_access_197 : decode cX1_access 197 = .ok (.getfield 67, 3) := by decide +kernel
theorem dX1_access_200 : decode cX1_access 200 = .ok (.if_icmp .ne 4, 3) := by decide +kernel
theorem dX1_access_203 : decode cX1_access 203 = .ok (.return_, 1) := by decide +kernel
theorem dX1_access_204 : decode cX1_access 204 = .ok (.iload 7, 2) := by decide +kernel
theorem dX1_access_206 : decode cX1_access 206 = .ok (.ifCond .ne 25, 3) := by decide +kernel
theorem dX1_access_209 : decode cX1_access 209 = .ok (.aload_n 0, 1) := by decide +kernel
theorem dX1_access_210 : decode cX1_access 210 = .ok (.getfield 46, 3) := by decide +kernel
theorem dX1_access_213 : decode cX1_access 213 = .ok (.getfield 382, 3) := by decide +kernel
theorem dX1_access_216 : decode cX1_access 216 = .ok (.iload 9, 2) := by decide +kernel
theorem dX1_access_218 : decode cX1_access 218 = .ok (.dup2, 1) := by decide +kernel
theorem dX1_access_219 : decode cX1_access 219 = .ok (.iaload, 1) := by decide +kernel
theorem dX1_access_220 : decode cX1_access 220 = .ok (.iconst 1, 1) := by decide +kernel
theorem dX1_access_221 : decode cX1_access 221 = .ok (.aload_n 0, 1) := by decide +kernel
theorem dX1_access_222 : decode cX1_access 222 = .ok (.getfield 291, 3) := by decide +kernel
theorem dX1_access_225 : decode cX1_access 225 = .ok (.ishl, 1) := by decide +kernel
theorem dX1_access_226 : decode cX1_access 226 = .ok (.ior, 1) := by decide +kernel
theorem dX1_access_227 : decode cX1_access 227 = .ok (.iastore, 1) := by decide +kernel
theorem dX1_access_228 : decode cX1_access 228 = .ok (.goto 40, 3) := by decide +kernel
theorem dX1_access_231 : decode cX1_access 231 = .ok (.aload_n 0, 1) := by decide +kernel
theorem dX1_access_232 : decode cX1_access 232 = .ok (.getfield 46, 3) := by decide +kernel
theorem dX1_access_235 : decode cX1_access 235 = .ok (.getfield 328, 3) := by decide +kernel
theorem dX1_access_238 : decode cX1_access 238 = .ok (.iload 9, 2) := by decide +kernel
theorem dX1_access_240 : decode cX1_access 240 = .ok (.iaload, 1) := by decide +kernel
theorem dX1_access_241 : decode cX1_access 241 = .ok (.aload_n 0, 1) := by decide +kernel
theorem dX1_access_242 : decode cX1_access 242 = .ok (.getfield 291, 3) := by decide +kernel
theorem dX1_access_245 : decode cX1_access 245 = .ok (.if_icmp .eq 23, 3) := by decide +kernel
theorem dX1_access_248 : decode cX1_access 248 = .ok (.aload_n 0, 1) := by decide +kernel
theorem dX1_access_249 : decode cX1_access 249 = .ok (.getfield 46, 3) := by decide +kernel
theorem dX1_access_252 : decode cX1_access 252 = .ok (.getfield 328, 3) := by decide +kernel
theorem dX1_access_255 : decode cX1_access 255 = .ok (.iload 9, 2) := by decide +kernel
theorem dX1_access_257 : decode cX1_access 257 = .ok (.aload_n 0, 1) := by decide +kernel
theorem dX1_access_258 : decode cX1_access 258 = .ok (.getfield 291, 3) := by decide +kernel
theorem dX1_access_261 : decode cX1_access 261 = .ok (.iastore, 1) := by decide +kernel
theorem dX1_access_262 : decode cX1_access 262 = .ok (.aload_n 0, 1) := by decide +kernel
theorem dX1_access_263 : decode cX1_access 263 = .ok (.iload_n 1, 1) := by decide +kernel
theorem dX1_access_264 : decode cX1_access 264 = .ok (.iload_n 2, 1) := by decide +kernel
theorem dX1_access_265 : decode cX1_access 265 = .ok (.invokevirtual 385, 3) := by decide +kernel
theorem dX1_access_268 : decode cX1_access 268 = .ok (.return_, 1) := by decide +kernel
theorem kSaveI {G : xG} {n : Nat} {Q : Outcome → xS → Prop} {x : kX} {I : xI} {R : xR} {v : kV} {th : List xTh} {g oa : Int32} (hT : KT x v th) (hoa : oa = nI (iN oa) ∧ kOf g (iN oa) x.N) (hw : kWf I x.N) (hn : 2 ≤ n) (hq : Q (.returned none) (kSave (kI I v.t) g (iN oa), v.J, kR R v.u, x.Z, kT x v)) : xCall G mX1_save n [.ref (x.ad 0 0), .int g, .int oa] (kS I R x v) Q := by
  have h := c_X1_save (T := kT x v) (I := kI I v.t) (J := v.J) (R := kR R v.u) (G := G) (n := n) (Q := Q) hT.ks hoa.2 (hw.k (t := v.t)) hn hq
  rw [← hoa.1] at h
  exact h
set_option maxHeartbeats 4000000 in
set_option maxRecDepth 100000 in
theorem t_X1_access {G : xG} {n a b : Nat} {Q : Outcome → xS → Prop} {x : kX} {I : xI} {R : xR} {v : kV} {th : List xTh} {mm : Nat} (hT : KT x v th) (hK : KI (I, R, th) x.N mm) {g oa w : Int32} {p q : Int64} (hoa : oa = nI (iN oa) ∧ kOf g (iN oa) x.N) (hmm : mm < 16384) {mt : Int32} (hn : 3 ≤ n) (hq : ∀ v' : kV, KT x v' (kMark (I, R, th) g oa p q w).2.2 → Q (.returned none) (kS (kMark (I, R, th) g oa p q w).1 (kMark (I, R, th) g oa p q w).2.1 x v')) : X G mX1_access n a b Q (kS I R x v) 149 [(1, .ref (x.ad 0 0)), (1, .int g), (1, .int oa), (2, .long p), xo, (2, .long q), xo, (1, .int w), (1, .int mt), xo, xo, xo, xo] [] := by
  have hln : th.length ≤ mm := hK.ln
  refine x_aload_n 150 dX1_access_149 rfl rfl ?_
  refine x_geti 153 dX1_access_150 rfl fl_X1_291 (hT.ks.l0 (by omega)) ?_
  refine x_vi (w := I 0 0 21) rfl ?_
  refine x_bipush (v := 16) 155 dX1_access_153 rfl rfl ?_
  refine x_icmp_ne 164 158 dX1_access_155 (by decide) rfl (fun c155 => ?_) (fun c155 => ?_)
  · skip
    refine x_aload_n 165 dX1_access_164 rfl rfl ?_
    refine x_getz 168 dX1_access_165 rfl fl_X1_46 (hT.ks.l0 (by omega)) (hT.ks.z0_9 (by omega)) ?_
    refine x_iload_n 169 dX1_access_168 rfl rfl ?_
    refine x_iload_n 170 dX1_access_169 rfl rfl ?_
    refine x_lload_n 171 dX1_access_170 rfl rfl ?_
    refine x_lload 173 dX1_access_171 rfl rfl ?_
    refine x_callV (as := [.int g, .int oa, .long p, .long q]) (rest := []) (i := 0) (n' := n - 1) 176 dX1_access_173 rfl mv_X1_378 rfl rfl (hT.ks.l2 (by omega)) (xnh rfl) (by omega) (xst (Nat.le_of_ble_eq_true rfl)) (k_X3_find (g := g) (oa := oa) (p := p) (q := q) hT (by omega) (by omega) ?_)
    · skip
      intro v2 hT2
      change X _ _ _ _ _ _ _ _ _ _
      obtain ⟨g_, cap, jk, jo, jf, js, jr, jw, ht, hmn, hle, hthL, hg⟩ := hT2.2.2.2.2.2
      have hc2 := ht.xc2
      obtain ⟨ix, hix⟩ : ∃ ix, ix = thIx th g oa p q := ⟨_, rfl⟩
      rw [← hix]
      have hixl : ix < (thAdd th g oa p q).length := by rw [hix]; exact thIx_lt
      have hwe := thW_at hthL hixl
      refine x_istore 178 [(1, .ref (x.ad 0 0)), (1, .int g), (1, .int oa), (2, .long p), xo, (2, .long q), xo, (1, .int w), (1, .int mt), (1, .int (nI ix)), xo, xo, xo] dX1_access_176 rfl (by decide) rfl ?_
      refine x_aload_n 179 dX1_access_178 rfl rfl ?_
      refine x_geti 182 dX1_access_179 rfl fl_X1_67 (hT2.ks.l0 (by omega)) ?_
      refine x_vi (w := I 0 0 22) rfl ?_
      refine x_iconst (v := -1) 183 dX1_access_182 rfl rfl ?_
      refine x_icmp_eq 204 186 dX1_access_183 (by decide) rfl (fun c183 => ?_) (fun c183 => ?_)
      · skip
        refine x_iload 206 dX1_access_204 rfl rfl ?_
        refine x_if_ne 231 209 dX1_access_206 (by decide) rfl (fun c206 => ?_) (fun c206 => ?_)
        · skip
          refine x_aload_n 232 dX1_access_231 rfl rfl ?_
          refine x_getz 235 dX1_access_232 rfl fl_X1_46 (hT2.ks.l0 (by omega)) (hT2.ks.z0_9 (by omega)) ?_
          refine x_gets 238 dX1_access_235 rfl fl_X1_328 (hT2.ks.l2 (by omega)) ht.xw ?_
          refine x_iload 240 dX1_access_238 rfl rfl ?_
          refine x_iald 241 dX1_access_240 rfl ar_31 ht.xlw (xb ht.xnw (by omega) (by omega)) ?_
          refine x_vi (w := v2.t 31 jw ix) rfl ?_
          refine x_vi (w := thW (thAdd th g oa p q) ix) hwe ?_
          refine x_aload_n 242 dX1_access_241 rfl rfl ?_
          refine x_geti 245 dX1_access_242 rfl fl_X1_291 (hT2.ks.l0 (by omega)) ?_
          refine x_vi (w := I 0 0 21) rfl ?_
          refine x_icmp_eq 268 248 dX1_access_245 (by decide) rfl (fun c245 => ?_) (fun c245 => ?_)
          · skip
            refine x_vreturn dX1_access_268 rfl ?_
            unfold kMark at hq
            rw [if_neg (fun h => c155 h.1), if_neg (fun h => h.1 c183), if_neg c206, if_pos (by rw [← hix]; exact c245)] at hq
            exact hq _ hT2
          · skip
            refine x_aload_n 249 dX1_access_248 rfl rfl ?_
            refine x_getz 252 dX1_access_249 rfl fl_X1_46 (hT2.ks.l0 (by omega)) (hT2.ks.z0_9 (by omega)) ?_
            refine x_gets 255 dX1_access_252 rfl fl_X1_328 (hT2.ks.l2 (by omega)) ht.xw ?_
            refine x_iload 257 dX1_access_255 rfl rfl ?_
            refine x_aload_n 258 dX1_access_257 rfl rfl ?_
            refine x_geti 261 dX1_access_258 rfl fl_X1_291 (hT2.ks.l0 (by omega)) ?_
            refine x_vi (w := I 0 0 21) rfl ?_
            refine x_iast 262 dX1_access_261 rfl ar_31 (by decide) (by decide) ht.xlw (xb ht.xnw (by omega) (by omega)) ?_
            refine k_row fun v3 hv3 => ?_
            have hT3 : KT x v3 (thMod (thWr (I 0 0 21)) (thAdd th g oa p q) ix) := by rw [hv3]; exact hT2.mod ht hmn hle hthL hg (xu_c (by decide)) (by rw [th_w ht, if_pos rfl]; rfl) (fun q_ hq_ => by rw [th_w ht, if_neg hq_])
            refine x_aload_n 263 dX1_access_262 rfl rfl ?_
            refine x_iload_n 264 dX1_access_263 rfl rfl ?_
            refine x_iload_n 265 dX1_access_264 rfl rfl ?_
            refine x_callV (as := [.int g, .int oa]) (rest := []) (i := 0) (n' := n - 1) 268 dX1_access_265 rfl mv_X1_385 rfl rfl (hT3.ks.l0 (by omega)) (xnh rfl) (by omega) (xst (Nat.le_of_ble_eq_true rfl)) (kSaveI hT3 hoa hK.wf (by omega) ?_)
            change X _ _ _ _ _ _ _ _ _ _
            refine k_nmA (v := v3) (A1 := (kSave I g (iN oa))) kI_kSave fun I1 hI1 => ?_
            refine x_vreturn dX1_access_268 rfl ?_
            unfold kMark at hq
            rw [if_neg (fun h => c155 h.1), if_neg (fun h => h.1 c183), if_neg c206, if_neg (fun h => c245 (by rw [hix]; exact h))] at hq
            rw [hI1]
            exact hq _ (by rw [← hix]; exact hT3)
        · skip
          refine x_aload_n 210 dX1_access_209 rfl rfl ?_
          refine x_getz 213 dX1_access_210 rfl fl_X1_46 (hT2.ks.l0 (by omega)) (hT2.ks.z0_9 (by omega)) ?_
          refine x_gets 216 dX1_access_213 rfl fl_X1_382 (hT2.ks.l2 (by omega)) ht.xr ?_
          refine x_iload 218 dX1_access_216 rfl rfl ?_
          refine x_dup2 219 dX1_access_218 rfl rfl rfl ?_
          refine x_iald 220 dX1_access_219 rfl ar_31 ht.xlr (xb ht.xnr (by omega) (by omega)) ?_
          refine x_vi (w := v2.t 31 jr ix) rfl ?_
          refine x_iconst (v := 1) 221 dX1_access_220 rfl rfl ?_
          refine x_aload_n 222 dX1_access_221 rfl rfl ?_
          refine x_geti 225 dX1_access_222 rfl fl_X1_291 (hT2.ks.l0 (by omega)) ?_
          refine x_vi (w := I 0 0 21) rfl ?_
          refine x_ishl 226 dX1_access_225 rfl ?_
          refine x_ior 227 dX1_access_226 rfl ?_
          refine x_iast 228 dX1_access_227 rfl ar_31 (by decide) (by decide) ht.xlr (xb ht.xnr (by omega) (by omega)) ?_
          refine k_row fun v3 hv3 => ?_
          have hT3 : KT x v3 (thMod (thRd (I 0 0 21)) (thAdd th g oa p q) ix) := by rw [hv3]; exact hT2.mod ht hmn hle hthL hg (xu_c (by decide)) (by rw [th_r ht, if_pos rfl]; rfl) (fun q_ hq_ => by rw [th_r ht, if_neg hq_])
          refine x_goto 268 dX1_access_228 (by decide) ?_
          refine x_vreturn dX1_access_268 rfl ?_
          unfold kMark at hq
          rw [if_neg (fun h => c155 h.1), if_neg (fun h => h.1 c183), if_pos c206] at hq
          exact hq _ (by rw [← hix]; exact hT3)
      · skip
        refine x_aload_n 187 dX1_access_186 rfl rfl ?_
        refine x_getz 190 dX1_access_187 rfl fl_X1_46 (hT2.ks.l0 (by omega)) (hT2.ks.z0_9 (by omega)) ?_
        refine x_gets 193 dX1_access_190 rfl fl_X1_328 (hT2.ks.l2 (by omega)) ht.xw ?_
        refine x_iload 195 dX1_access_193 rfl rfl ?_
        refine x_iald 196 dX1_access_195 rfl ar_31 ht.xlw (xb ht.xnw (by omega) (by omega)) ?_
        refine x_vi (w := v2.t 31 jw ix) rfl ?_
        refine x_vi (w := thW (thAdd th g oa p q) ix) hwe ?_
        refine x_aload_n 197 dX1_access_196 rfl rfl ?_
        refine x_geti 200 dX1_access_197 rfl fl_X1_67 (hT2.ks.l0 (by omega)) ?_
        refine x_vi (w := I 0 0 22) rfl ?_
        refine x_icmp_ne 204 203 dX1_access_200 (by decide) rfl (fun c200 => ?_) (fun c200 => ?_)
        · skip
          refine x_iload 206 dX1_access_204 rfl rfl ?_
          refine x_if_ne 231 209 dX1_access_206 (by decide) rfl (fun c206 => ?_) (fun c206 => ?_)
          · skip
            refine x_aload_n 232 dX1_access_231 rfl rfl ?_
            refine x_getz 235 dX1_access_232 rfl fl_X1_46 (hT2.ks.l0 (by omega)) (hT2.ks.z0_9 (by omega)) ?_
            refine x_gets 238 dX1_access_235 rfl fl_X1_328 (hT2.ks.l2 (by omega)) ht.xw ?_
            refine x_iload 240 dX1_access_238 rfl rfl ?_
            refine x_iald 241 dX1_access_240 rfl ar_31 ht.xlw (xb ht.xnw (by omega) (by omega)) ?_
            refine x_vi (w := v2.t 31 jw ix) rfl ?_
            refine x_vi (w := thW (thAdd th g oa p q) ix) hwe ?_
            refine x_aload_n 242 dX1_access_241 rfl rfl ?_
            refine x_geti 245 dX1_access_242 rfl fl_X1_291 (hT2.ks.l0 (by omega)) ?_
            refine x_vi (w := I 0 0 21) rfl ?_
            refine x_icmp_eq 268 248 dX1_access_245 (by decide) rfl (fun c245 => ?_) (fun c245 => ?_)
            · skip
              refine x_vreturn dX1_access_268 rfl ?_
              unfold kMark at hq
              rw [if_neg (fun h => c155 h.1), if_neg (fun h => c200 (by rw [hix]; exact h.2)), if_neg c206, if_pos (by rw [← hix]; exact c245)] at hq
              exact hq _ hT2
            · skip
              refine x_aload_n 249 dX1_access_248 rfl rfl ?_
              refine x_getz 252 dX1_access_249 rfl fl_X1_46 (hT2.ks.l0 (by omega)) (hT2.ks.z0_9 (by omega)) ?_
              refine x_gets 255 dX1_access_252 rfl fl_X1_328 (hT2.ks.l2 (by omega)) ht.xw ?_
              refine x_iload 257 dX1_access_255 rfl rfl ?_
              refine x_aload_n 258 dX1_access_257 rfl rfl ?_
              refine x_geti 261 dX1_access_258 rfl fl_X1_291 (hT2.ks.l0 (by omega)) ?_
              refine x_vi (w := I 0 0 21) rfl ?_
              refine x_iast 262 dX1_access_261 rfl ar_31 (by decide) (by decide) ht.xlw (xb ht.xnw (by omega) (by omega)) ?_
              refine k_row fun v3 hv3 => ?_
              have hT3 : KT x v3 (thMod (thWr (I 0 0 21)) (thAdd th g oa p q) ix) := by rw [hv3]; exact hT2.mod ht hmn hle hthL hg (xu_c (by decide)) (by rw [th_w ht, if_pos rfl]; rfl) (fun q_ hq_ => by rw [th_w ht, if_neg hq_])
              refine x_aload_n 263 dX1_access_262 rfl rfl ?_
              refine x_iload_n 264 dX1_access_263 rfl rfl ?_
              refine x_iload_n 265 dX1_access_264 rfl rfl ?_
              refine x_callV (as := [.int g, .int oa]) (rest := []) (i := 0) (n' := n - 1) 268 dX1_access_265 rfl mv_X1_385 rfl rfl (hT3.ks.l0 (by omega)) (xnh rfl) (by omega) (xst (Nat.le_of_ble_eq_true rfl)) (kSaveI hT3 hoa hK.wf (by omega) ?_)
              change X _ _ _ _ _ _ _ _ _ _
              refine k_nmA (v := v3) (A1 := (kSave I g (iN oa))) kI_kSave fun I1 hI1 => ?_
              refine x_vreturn dX1_access_268 rfl ?_
              unfold kMark at hq
              rw [if_neg (fun h => c155 h.1), if_neg (fun h => c200 (by rw [hix]; exact h.2)), if_neg c206, if_neg (fun h => c245 (by rw [hix]; exact h))] at hq
              rw [hI1]
              exact hq _ (by rw [← hix]; exact hT3)
          · skip
            refine x_aload_n 210 dX1_access_209 rfl rfl ?_
            refine x_getz 213 dX1_access_210 rfl fl_X1_46 (hT2.ks.l0 (by omega)) (hT2.ks.z0_9 (by omega)) ?_
            refine x_gets 216 dX1_access_213 rfl fl_X1_382 (hT2.ks.l2 (by omega)) ht.xr ?_
            refine x_iload 218 dX1_access_216 rfl rfl ?_
            refine x_dup2 219 dX1_access_218 rfl rfl rfl ?_
            refine x_iald 220 dX1_access_219 rfl ar_31 ht.xlr (xb ht.xnr (by omega) (by omega)) ?_
            refine x_vi (w := v2.t 31 jr ix) rfl ?_
            refine x_iconst (v := 1) 221 dX1_access_220 rfl rfl ?_
            refine x_aload_n 222 dX1_access_221 rfl rfl ?_
            refine x_geti 225 dX1_access_222 rfl fl_X1_291 (hT2.ks.l0 (by omega)) ?_
            refine x_vi (w := I 0 0 21) rfl ?_
            refine x_ishl 226 dX1_access_225 rfl ?_
            refine x_ior 227 dX1_access_226 rfl ?_
            refine x_iast 228 dX1_access_227 rfl ar_31 (by decide) (by decide) ht.xlr (xb ht.xnr (by omega) (by omega)) ?_
            refine k_row fun v3 hv3 => ?_
            have hT3 : KT x v3 (thMod (thRd (I 0 0 21)) (thAdd th g oa p q) ix) := by rw [hv3]; exact hT2.mod ht hmn hle hthL hg (xu_c (by decide)) (by rw [th_r ht, if_pos rfl]; rfl) (fun q_ hq_ => by rw [th_r ht, if_neg hq_])
            refine x_goto 268 dX1_access_228 (by decide) ?_
            refine x_vreturn dX1_access_268 rfl ?_
            unfold kMark at hq
            rw [if_neg (fun h => c155 h.1), if_neg (fun h => c200 (by rw [hix]; exact h.2)), if_pos c206] at hq
            exact hq _ (by rw [← hix]; exact hT3)
        · skip
          refine x_vreturn dX1_access_203 rfl ?_
          unfold kMark at hq
          rw [if_neg (fun h => c155 h.1), if_pos ⟨c183, by rw [← hix]; exact c200⟩] at hq
          exact hq _ hT2
  · skip
    refine x_iload 160 dX1_access_158 rfl rfl ?_
    refine x_if_ne 164 163 dX1_access_160 (by decide) rfl (fun c160 => ?_) (fun c160 => ?_)
    · skip
      refine x_aload_n 165 dX1_access_164 rfl rfl ?_
      refine x_getz 168 dX1_access_165 rfl fl_X1_46 (hT.ks.l0 (by omega)) (hT.ks.z0_9 (by omega)) ?_
      refine x_iload_n 169 dX1_access_168 rfl rfl ?_
      refine x_iload_n 170 dX1_access_169 rfl rfl ?_
      refine x_lload_n 171 dX1_access_170 rfl rfl ?_
      refine x_lload 173 dX1_access_171 rfl rfl ?_
      refine x_callV (as := [.int g, .int oa, .long p, .long q]) (rest := []) (i := 0) (n' := n - 1) 176 dX1_access_173 rfl mv_X1_378 rfl rfl (hT.ks.l2 (by omega)) (xnh rfl) (by omega) (xst (Nat.le_of_ble_eq_true rfl)) (k_X3_find (g := g) (oa := oa) (p := p) (q := q) hT (by omega) (by omega) ?_)
      · skip
        intro v2 hT2
        change X _ _ _ _ _ _ _ _ _ _
        obtain ⟨g_, cap, jk, jo, jf, js, jr, jw, ht, hmn, hle, hthL, hg⟩ := hT2.2.2.2.2.2
        have hc2 := ht.xc2
        obtain ⟨ix, hix⟩ : ∃ ix, ix = thIx th g oa p q := ⟨_, rfl⟩
        rw [← hix]
        have hixl : ix < (thAdd th g oa p q).length := by rw [hix]; exact thIx_lt
        have hwe := thW_at hthL hixl
        refine x_istore 178 [(1, .ref (x.ad 0 0)), (1, .int g), (1, .int oa), (2, .long p), xo, (2, .long q), xo, (1, .int w), (1, .int mt), (1, .int (nI ix)), xo, xo, xo] dX1_access_176 rfl (by decide) rfl ?_
        refine x_aload_n 179 dX1_access_178 rfl rfl ?_
        refine x_geti 182 dX1_access_179 rfl fl_X1_67 (hT2.ks.l0 (by omega)) ?_
        refine x_vi (w := I 0 0 22) rfl ?_
        refine x_iconst (v := -1) 183 dX1_access_182 rfl rfl ?_
        refine x_icmp_eq 204 186 dX1_access_183 (by decide) rfl (fun c183 => ?_) (fun c183 => ?_)
        · skip
          refine x_iload 206 dX1_access_204 rfl rfl ?_
          refine x_if_ne 231 209 dX1_access_206 (by decide) rfl (fun c206 => ?_) (fun c206 => ?_)
          · skip
            refine x_aload_n 232 dX1_access_231 rfl rfl ?_
            refine x_getz 235 dX1_access_232 rfl fl_X1_46 (hT2.ks.l0 (by omega)) (hT2.ks.z0_9 (by omega)) ?_
            refine x_gets 238 dX1_access_235 rfl fl_X1_328 (hT2.ks.l2 (by omega)) ht.xw ?_
            refine x_iload 240 dX1_access_238 rfl rfl ?_
            refine x_iald 241 dX1_access_240 rfl ar_31 ht.xlw (xb ht.xnw (by omega) (by omega)) ?_
            refine x_vi (w := v2.t 31 jw ix) rfl ?_
            refine x_vi (w := thW (thAdd th g oa p q) ix) hwe ?_
            refine x_aload_n 242 dX1_access_241 rfl rfl ?_
            refine x_geti 245 dX1_access_242 rfl fl_X1_291 (hT2.ks.l0 (by omega)) ?_
            refine x_vi (w := I 0 0 21) rfl ?_
            refine x_icmp_eq 268 248 dX1_access_245 (by decide) rfl (fun c245 => ?_) (fun c245 => ?_)
            · skip
              refine x_vreturn dX1_access_268 rfl ?_
              unfold kMark at hq
              rw [if_neg (fun h => c160 h.2), if_neg (fun h => h.1 c183), if_neg c206, if_pos (by rw [← hix]; exact c245)] at hq
              exact hq _ hT2
            · skip
              refine x_aload_n 249 dX1_access_248 rfl rfl ?_
              refine x_getz 252 dX1_access_249 rfl fl_X1_46 (hT2.ks.l0 (by omega)) (hT2.ks.z0_9 (by omega)) ?_
              refine x_gets 255 dX1_access_252 rfl fl_X1_328 (hT2.ks.l2 (by omega)) ht.xw ?_
              refine x_iload 257 dX1_access_255 rfl rfl ?_
              refine x_aload_n 258 dX1_access_257 rfl rfl ?_
              refine x_geti 261 dX1_access_258 rfl fl_X1_291 (hT2.ks.l0 (by omega)) ?_
              refine x_vi (w := I 0 0 21) rfl ?_
              refine x_iast 262 dX1_access_261 rfl ar_31 (by decide) (by decide) ht.xlw (xb ht.xnw (by omega) (by omega)) ?_
              refine k_row fun v3 hv3 => ?_
              have hT3 : KT x v3 (thMod (thWr (I 0 0 21)) (thAdd th g oa p q) ix) := by rw [hv3]; exact hT2.mod ht hmn hle hthL hg (xu_c (by decide)) (by rw [th_w ht, if_pos rfl]; rfl) (fun q_ hq_ => by rw [th_w ht, if_neg hq_])
              refine x_aload_n 263 dX1_access_262 rfl rfl ?_
              refine x_iload_n 264 dX1_access_263 rfl rfl ?_
              refine x_iload_n 265 dX1_access_264 rfl rfl ?_
              refine x_callV (as := [.int g, .int oa]) (rest := []) (i := 0) (n' := n - 1) 268 dX1_access_265 rfl mv_X1_385 rfl rfl (hT3.ks.l0 (by omega)) (xnh rfl) (by omega) (xst (Nat.le_of_ble_eq_true rfl)) (kSaveI hT3 hoa hK.wf (by omega) ?_)
              change X _ _ _ _ _ _ _ _ _ _
              refine k_nmA (v := v3) (A1 := (kSave I g (iN oa))) kI_kSave fun I1 hI1 => ?_
              refine x_vreturn dX1_access_268 rfl ?_
              unfold kMark at hq
              rw [if_neg (fun h => c160 h.2), if_neg (fun h => h.1 c183), if_neg c206, if_neg (fun h => c245 (by rw [hix]; exact h))] at hq
              rw [hI1]
              exact hq _ (by rw [← hix]; exact hT3)
          · skip
            refine x_aload_n 210 dX1_access_209 rfl rfl ?_
            refine x_getz 213 dX1_access_210 rfl fl_X1_46 (hT2.ks.l0 (by omega)) (hT2.ks.z0_9 (by omega)) ?_
            refine x_gets 216 dX1_access_213 rfl fl_X1_382 (hT2.ks.l2 (by omega)) ht.xr ?_
            refine x_iload 218 dX1_access_216 rfl rfl ?_
            refine x_dup2 219 dX1_access_218 rfl rfl rfl ?_
            refine x_iald 220 dX1_access_219 rfl ar_31 ht.xlr (xb ht.xnr (by omega) (by omega)) ?_
            refine x_vi (w := v2.t 31 jr ix) rfl ?_
            refine x_iconst (v := 1) 221 dX1_access_220 rfl rfl ?_
            refine x_aload_n 222 dX1_access_221 rfl rfl ?_
            refine x_geti 225 dX1_access_222 rfl fl_X1_291 (hT2.ks.l0 (by omega)) ?_
            refine x_vi (w := I 0 0 21) rfl ?_
            refine x_ishl 226 dX1_access_225 rfl ?_
            refine x_ior 227 dX1_access_226 rfl ?_
            refine x_iast 228 dX1_access_227 rfl ar_31 (by decide) (by decide) ht.xlr (xb ht.xnr (by omega) (by omega)) ?_
            refine k_row fun v3 hv3 => ?_
            have hT3 : KT x v3 (thMod (thRd (I 0 0 21)) (thAdd th g oa p q) ix) := by rw [hv3]; exact hT2.mod ht hmn hle hthL hg (xu_c (by decide)) (by rw [th_r ht, if_pos rfl]; rfl) (fun q_ hq_ => by rw [th_r ht, if_neg hq_])
            refine x_goto 268 dX1_access_228 (by decide) ?_
            refine x_vreturn dX1_access_268 rfl ?_
            unfold kMark at hq
            rw [if_neg (fun h => c160 h.2), if_neg (fun h => h.1 c183), if_pos c206] at hq
            exact hq _ (by rw [← hix]; exact hT3)
        · skip
          refine x_aload_n 187 dX1_access_186 rfl rfl ?_
          refine x_getz 190 dX1_access_187 rfl fl_X1_46 (hT2.ks.l0 (by omega)) (hT2.ks.z0_9 (by omega)) ?_
          refine x_gets 193 dX1_access_190 rfl fl_X1_328 (hT2.ks.l2 (by omega)) ht.xw ?_
          refine x_iload 195 dX1_access_193 rfl rfl ?_
          refine x_iald 196 dX1_access_195 rfl ar_31 ht.xlw (xb ht.xnw (by omega) (by omega)) ?_
          refine x_vi (w := v2.t 31 jw ix) rfl ?_
          refine x_vi (w := thW (thAdd th g oa p q) ix) hwe ?_
          refine x_aload_n 197 dX1_access_196 rfl rfl ?_
          refine x_geti 200 dX1_access_197 rfl fl_X1_67 (hT2.ks.l0 (by omega)) ?_
          refine x_vi (w := I 0 0 22) rfl ?_
          refine x_icmp_ne 204 203 dX1_access_200 (by decide) rfl (fun c200 => ?_) (fun c200 => ?_)
          · skip
            refine x_iload 206 dX1_access_204 rfl rfl ?_
            refine x_if_ne 231 209 dX1_access_206 (by decide) rfl (fun c206 => ?_) (fun c206 => ?_)
            · skip
              refine x_aload_n 232 dX1_access_231 rfl rfl ?_
              refine x_getz 235 dX1_access_232 rfl fl_X1_46 (hT2.ks.l0 (by omega)) (hT2.ks.z0_9 (by omega)) ?_
              refine x_gets 238 dX1_access_235 rfl fl_X1_328 (hT2.ks.l2 (by omega)) ht.xw ?_
              refine x_iload 240 dX1_access_238 rfl rfl ?_
              refine x_iald 241 dX1_access_240 rfl ar_31 ht.xlw (xb ht.xnw (by omega) (by omega)) ?_
              refine x_vi (w := v2.t 31 jw ix) rfl ?_
              refine x_vi (w := thW (thAdd th g oa p q) ix) hwe ?_
              refine x_aload_n 242 dX1_access_241 rfl rfl ?_
              refine x_geti 245 dX1_access_242 rfl fl_X1_291 (hT2.ks.l0 (by omega)) ?_
              refine x_vi (w := I 0 0 21) rfl ?_
              refine x_icmp_eq 268 248 dX1_access_245 (by decide) rfl (fun c245 => ?_) (fun c245 => ?_)
              · skip
                refine x_vreturn dX1_access_268 rfl ?_
                unfold kMark at hq
                rw [if_neg (fun h => c160 h.2), if_neg (fun h => c200 (by rw [hix]; exact h.2)), if_neg c206, if_pos (by rw [← hix]; exact c245)] at hq
                exact hq _ hT2
              · skip
                refine x_aload_n 249 dX1_access_248 rfl rfl ?_
                refine x_getz 252 dX1_access_249 rfl fl_X1_46 (hT2.ks.l0 (by omega)) (hT2.ks.z0_9 (by omega)) ?_
                refine x_gets 255 dX1_access_252 rfl fl_X1_328 (hT2.ks.l2 (by omega)) ht.xw ?_
                refine x_iload 257 dX1_access_255 rfl rfl ?_
                refine x_aload_n 258 dX1_access_257 rfl rfl ?_
                refine x_geti 261 dX1_access_258 rfl fl_X1_291 (hT2.ks.l0 (by omega)) ?_
                refine x_vi (w := I 0 0 21) rfl ?_
                refine x_iast 262 dX1_access_261 rfl ar_31 (by decide) (by decide) ht.xlw (xb ht.xnw (by omega) (by omega)) ?_
                refine k_row fun v3 hv3 => ?_
                have hT3 : KT x v3 (thMod (thWr (I 0 0 21)) (thAdd th g oa p q) ix) := by rw [hv3]; exact hT2.mod ht hmn hle hthL hg (xu_c (by decide)) (by rw [th_w ht, if_pos rfl]; rfl) (fun q_ hq_ => by rw [th_w ht, if_neg hq_])
                refine x_aload_n 263 dX1_access_262 rfl rfl ?_
                refine x_iload_n 264 dX1_access_263 rfl rfl ?_
                refine x_iload_n 265 dX1_access_264 rfl rfl ?_
                refine x_callV (as := [.int g, .int oa]) (rest := []) (i := 0) (n' := n - 1) 268 dX1_access_265 rfl mv_X1_385 rfl rfl (hT3.ks.l0 (by omega)) (xnh rfl) (by omega) (xst (Nat.le_of_ble_eq_true rfl)) (kSaveI hT3 hoa hK.wf (by omega) ?_)
                change X _ _ _ _ _ _ _ _ _ _
                refine k_nmA (v := v3) (A1 := (kSave I g (iN oa))) kI_kSave fun I1 hI1 => ?_
                refine x_vreturn dX1_access_268 rfl ?_
                unfold kMark at hq
                rw [if_neg (fun h => c160 h.2), if_neg (fun h => c200 (by rw [hix]; exact h.2)), if_neg c206, if_neg (fun h => c245 (by rw [hix]; exact h))] at hq
                rw [hI1]
                exact hq _ (by rw [← hix]; exact hT3)
            · skip
              refine x_aload_n 210 dX1_access_209 rfl rfl ?_
              refine x_getz 213 dX1_access_210 rfl fl_X1_46 (hT2.ks.l0 (by omega)) (hT2.ks.z0_9 (by omega)) ?_
              refine x_gets 216 dX1_access_213 rfl fl_X1_382 (hT2.ks.l2 (by omega)) ht.xr ?_
              refine x_iload 218 dX1_access_216 rfl rfl ?_
              refine x_dup2 219 dX1_access_218 rfl rfl rfl ?_
              refine x_iald 220 dX1_access_219 rfl ar_31 ht.xlr (xb ht.xnr (by omega) (by omega)) ?_
              refine x_vi (w := v2.t 31 jr ix) rfl ?_
              refine x_iconst (v := 1) 221 dX1_access_220 rfl rfl ?_
              refine x_aload_n 222 dX1_access_221 rfl rfl ?_
              refine x_geti 225 dX1_access_222 rfl fl_X1_291 (hT2.ks.l0 (by omega)) ?_
              refine x_vi (w := I 0 0 21) rfl ?_
              refine x_ishl 226 dX1_access_225 rfl ?_
              refine x_ior 227 dX1_access_226 rfl ?_
              refine x_iast 228 dX1_access_227 rfl ar_31 (by decide) (by decide) ht.xlr (xb ht.xnr (by omega) (by omega)) ?_
              refine k_row fun v3 hv3 => ?_
              have hT3 : KT x v3 (thMod (thRd (I 0 0 21)) (thAdd th g oa p q) ix) := by rw [hv3]; exact hT2.mod ht hmn hle hthL hg (xu_c (by decide)) (by rw [th_r ht, if_pos rfl]; rfl) (fun q_ hq_ => by rw [th_r ht, if_neg hq_])
              refine x_goto 268 dX1_access_228 (by decide) ?_
              refine x_vreturn dX1_access_268 rfl ?_
              unfold kMark at hq
              rw [if_neg (fun h => c160 h.2), if_neg (fun h => c200 (by rw [hix]; exact h.2)), if_pos c206] at hq
              exact hq _ (by rw [← hix]; exact hT3)
          · skip
            refine x_vreturn dX1_access_203 rfl ?_
            unfold kMark at hq
            rw [if_neg (fun h => c160 h.2), if_pos ⟨c183, by rw [← hix]; exact c200⟩] at hq
            exact hq _ hT2
    · skip
      refine x_vreturn dX1_access_163 rfl ?_
      unfold kMark at hq
      rw [if_pos ⟨c155, c160⟩] at hq
      exact hq _ hT
set_option maxHeartbeats 4000000 in
set_option maxRecDepth 100000 in
theorem l_X1_access {G : xG} {n a b : Nat} {Q : Outcome → xS → Prop} {x : kX} {I : xI} {R : xR} {v : kV} {th : List xTh} {mm : Nat} (hT : KT x v th) (hK : KI (I, R, th) x.N mm) {g oa w mt : Int32} {p q : Int64} {me : Nat} (hme : R 0 0 19 = some me) (hme16 : me < 16) (hx : (∀ p, p < 16 → ¬ (kBit mt p = 1 ∧ ¬ I 9 me 9 ≤ I 9 p 9)) → X G mX1_access n a b Q (kS I R x v) 143 [(1, .ref (x.ad 0 0)), (1, .int g), (1, .int oa), (2, .long p), xo, (2, .long q), xo, (1, .int w), (1, .int mt), xo, xo, xo, xo] []) (ht9 : (∃ p, p < 16 ∧ kBit mt p = 1 ∧ ¬ I 9 me 9 ≤ I 9 p 9) → Q (.threw (x.ad 3 0)) (kS (xu I 3 0 0 (-9)) R x v)) (k : Nat) (hn : 3 ≤ n) :
    (k ≤ 16) → (∀ p, p < k → ¬ (kBit mt p = 1 ∧ ¬ I 9 me 9 ≤ I 9 p 9)) → X G mX1_access n a b Q (kS I R x v) 84 [(1, .ref (x.ad 0 0)), (1, .int g), (1, .int oa), (2, .long p), xo, (2, .long q), xo, (1, .int w), (1, .int mt), (1, .ref (x.ad 26 0)), (1, .int (nI 16)), (1, .int (nI k)), xo] [] := by
  induction hm : 16 - k using Nat.strongRecOn generalizing k with
  | _ m_ ih =>
    intro h8 hv
    refine x_iload 86 dX1_access_84 rfl rfl ?_
    refine x_iload 88 dX1_access_86 rfl rfl ?_
    refine x_icmp_ge 143 91 dX1_access_88 (by decide) rfl (fun c88 => ?_) (fun c88 => ?_)
    · skip
      have c88 : 16 ≤ k := (nI_leI (a := 16) (b := k) (by omega) (by omega)).mp c88
      refine x_fgt [(1, .ref (x.ad 0 0)), (1, .int g), (1, .int oa), (2, .long p), xo, (2, .long q), xo, (1, .int w), (1, .int mt), xo, xo, xo, xo] ⟨Or.inr rfl, Or.inr rfl, Or.inr rfl, Or.inr rfl, Or.inl rfl, Or.inr rfl, Or.inl rfl, Or.inr rfl, Or.inr rfl, Or.inl rfl, Or.inl rfl, Or.inl rfl, Or.inl rfl, trivial⟩ ?_
      exact hx (fun p hp => hv p (by omega))
    · skip
      have c88 : ¬ (16 ≤ k) := fun h => c88 ((nI_leI (a := 16) (b := k) (by omega) (by omega)).mpr h)
      refine x_aload 93 dX1_access_91 rfl rfl ?_
      refine x_iload 95 dX1_access_93 rfl rfl ?_
      refine x_aldz 96 dX1_access_95 rfl ar_26 rfl (hT.ks.l26 (by omega)) (xb (hT.ks.n26 (by omega)) (by omega) (by omega)) (hT.ks.z26 (by omega)) ?_
      refine x_astore 98 [(1, .ref (x.ad 0 0)), (1, .int g), (1, .int oa), (2, .long p), xo, (2, .long q), xo, (1, .int w), (1, .int mt), (1, .ref (x.ad 26 0)), (1, .int (nI 16)), (1, .int (nI k)), (1, .ref (x.ad 9 k))] dX1_access_96 rfl (by decide) rfl ?_
      refine x_iload 100 dX1_access_98 rfl rfl ?_
      refine x_aload 102 dX1_access_100 rfl rfl ?_
      refine x_geti 105 dX1_access_102 rfl fl_X1_346 (hT.ks.l9 (by omega)) ?_
      refine x_vi (w := I 9 k 0) rfl ?_
      refine x_vi (w := nI k) (hK.nm.2 k (by omega)) ?_
      refine x_ishr 106 dX1_access_105 rfl ?_
      refine x_iconst (v := 1) 107 dX1_access_106 rfl rfl ?_
      refine x_iand 108 dX1_access_107 rfl ?_
      refine x_iconst (v := 1) 109 dX1_access_108 rfl rfl ?_
      refine x_icmp_ne 137 112 dX1_access_109 (by decide) rfl (fun c109 => ?_) (fun c109 => ?_)
      · skip
        refine x_iinc 140 [(1, .ref (x.ad 0 0)), (1, .int g), (1, .int oa), (2, .long p), xo, (2, .long q), xo, (1, .int w), (1, .int mt), (1, .ref (x.ad 26 0)), (1, .int (nI 16)), (1, .int (nI (k + 1))), (1, .ref (x.ad 9 k))] dX1_access_137 rfl (by decide) rfl (xi_1 k) rfl ?_
        refine x_goto 84 dX1_access_140 (by decide) ?_
        refine x_fgt [(1, .ref (x.ad 0 0)), (1, .int g), (1, .int oa), (2, .long p), xo, (2, .long q), xo, (1, .int w), (1, .int mt), (1, .ref (x.ad 26 0)), (1, .int (nI 16)), (1, .int (nI (k + 1))), xo] ⟨Or.inr rfl, Or.inr rfl, Or.inr rfl, Or.inr rfl, Or.inl rfl, Or.inr rfl, Or.inl rfl, Or.inr rfl, Or.inr rfl, Or.inr rfl, Or.inr rfl, Or.inr rfl, Or.inl rfl, trivial⟩ ?_
        exact ih _ (by rw [← hm]; omega) (k + 1) rfl (by omega) (lt_succ_of (P := fun p => ¬ (kBit mt p = 1 ∧ ¬ I 9 me 9 ≤ I 9 p 9)) hv (fun h => c109 h.1))
      · skip
        refine x_aload 114 dX1_access_112 rfl rfl ?_
        refine x_geti 117 dX1_access_114 rfl fl_X1_368 (hT.ks.l9 (by omega)) ?_
        refine x_vi (w := I 9 k 9) rfl ?_
        refine x_aload_n 118 dX1_access_117 rfl rfl ?_
        refine x_gets 121 dX1_access_118 rfl fl_X1_371 (hT.ks.l0 (by omega)) hme ?_
        refine x_geti 124 dX1_access_121 rfl fl_X1_368 (hT.ks.l9 (by omega)) ?_
        refine x_vi (w := I 9 me 9) rfl ?_
        refine x_icmp_ge 137 127 dX1_access_124 (by decide) rfl (fun c124 => ?_) (fun c124 => ?_)
        · skip
          refine x_iinc 140 [(1, .ref (x.ad 0 0)), (1, .int g), (1, .int oa), (2, .long p), xo, (2, .long q), xo, (1, .int w), (1, .int mt), (1, .ref (x.ad 26 0)), (1, .int (nI 16)), (1, .int (nI (k + 1))), (1, .ref (x.ad 9 k))] dX1_access_137 rfl (by decide) rfl (xi_1 k) rfl ?_
          refine x_goto 84 dX1_access_140 (by decide) ?_
          refine x_fgt [(1, .ref (x.ad 0 0)), (1, .int g), (1, .int oa), (2, .long p), xo, (2, .long q), xo, (1, .int w), (1, .int mt), (1, .ref (x.ad 26 0)), (1, .int (nI 16)), (1, .int (nI (k + 1))), xo] ⟨Or.inr rfl, Or.inr rfl, Or.inr rfl, Or.inr rfl, Or.inl rfl, Or.inr rfl, Or.inl rfl, Or.inr rfl, Or.inr rfl, Or.inr rfl, Or.inr rfl, Or.inr rfl, Or.inl rfl, trivial⟩ ?_
          exact ih _ (by rw [← hm]; omega) (k + 1) rfl (by omega) (lt_succ_of (P := fun p => ¬ (kBit mt p = 1 ∧ ¬ I 9 me 9 ≤ I 9 p 9)) hv (fun h => h.2 c124))
        · skip
          refine x_aload_n 128 dX1_access_127 rfl rfl ?_
          refine x_getz 131 dX1_access_128 rfl fl_X1_53 (hT.ks.l0 (by omega)) (hT.ks.z0_10 (by omega)) ?_
          refine x_bipush (v := -9) 133 dX1_access_131 rfl rfl ?_
          refine x_callV (as := [.int (-9)]) (rest := []) (i := 0) (n' := n - 1) 136 dX1_access_133 rfl mv_X1_364 rfl rfl (hT.ks.l3 (by omega)) (xnh rfl) (by omega) (xst (Nat.le_of_ble_eq_true rfl)) (c_X4_by hT.ks (by omega) ?_)
          change X _ _ _ _ _ _ _ _ _ _
          refine k_nmA (v := v) (A1 := (xu I 3 0 0 ((-9)))) (by (repeat (first | rw [kI_xu] | rw [kI_xur] | rw [kI_xfil])) <;> rfl) fun I1 hI1 => ?_
          refine x_athrow dX1_access_136 (xnh rfl) ?_
          rw [hI1]
          exact ht9 ⟨k, by omega, c109, c124⟩
set_option maxHeartbeats 4000000 in
set_option maxRecDepth 100000 in
theorem c_X1_access {G : xG} {n : Nat} {Q : Outcome → xS → Prop} {x : kX} {I : xI} {R : xR} {v : kV} {th : List xTh} {mm : Nat} (hT : KT x v th) (hK : KI (I, R, th) x.N mm) {g oa w : Int32} {p q : Int64} (hoa : oa = nI (iN oa) ∧ kOf g (iN oa) x.N) (hmm : mm < 16384) {me : Nat} (hme : R 0 0 19 = some me) (hme16 : me < 16) (hn : 7 ≤ n) (hq : kOut Q x (kAccess x.N (I, R, th) me g oa p q w) none) : xCall G mX1_access n [.ref (x.ad 0 0), .int g, .int oa, .long p, .long q, .int w] (kS I R x v) Q := by
  refine x_met (L0 := [(1, .ref (x.ad 0 0)), (1, .int g), (1, .int oa), (2, .long p), xo, (2, .long q), xo, (1, .int w), xo, xo, xo, xo, xo]) (by decide +kernel) rfl ⟨Nat.le_of_ble_eq_true rfl, rfl⟩ ?_
  have hln : th.length ≤ mm := hK.ln
  refine x_aload_n 1 dX1_access_0 rfl rfl ?_
  refine x_getz 4 dX1_access_1 rfl fl_X1_46 (hT.ks.l0 (by omega)) (hT.ks.z0_9 (by omega)) ?_
  refine x_iload_n 5 dX1_access_4 rfl rfl ?_
  refine x_iload_n 6 dX1_access_5 rfl rfl ?_
  refine x_lload_n 7 dX1_access_6 rfl rfl ?_
  refine x_lload 9 dX1_access_7 rfl rfl ?_
  refine x_iload 11 dX1_access_9 rfl rfl ?_
  refine x_aload_n 12 dX1_access_11 rfl rfl ?_
  refine x_geti 15 dX1_access_12 rfl fl_X1_291 (hT.ks.l0 (by omega)) ?_
  refine x_vi (w := I 0 0 21) rfl ?_
  refine x_callV (as := [.int g, .int oa, .long p, .long q, .int w, .int (I 0 0 21)]) (rest := []) (i := 0) (n' := n - 1) 18 dX1_access_15 rfl mv_X1_360 rfl rfl (hT.ks.l2 (by omega)) (xnh rfl) (by omega) (xst (Nat.le_of_ble_eq_true rfl)) (k_X3_met (g := g) (oa := oa) (p := p) (q := q) hT (by omega) (by omega) ?_)
  change X _ _ _ _ _ _ _ _ _ _
  refine x_vi (w := thBut (thMetL th g oa p q w) (I 0 0 21)) rfl ?_
  refine x_nmi fun x1 hx1 => ?_
  refine x_istore 20 [(1, .ref (x.ad 0 0)), (1, .int g), (1, .int oa), (2, .long p), xo, (2, .long q), xo, (1, .int w), (1, .int x1), xo, xo, xo, xo] dX1_access_18 rfl (by decide) rfl ?_
  refine x_aload_n 21 dX1_access_20 rfl rfl ?_
  refine x_geti 24 dX1_access_21 rfl fl_X1_67 (hT.ks.l0 (by omega)) ?_
  refine x_vi (w := I 0 0 22) rfl ?_
  refine x_iconst (v := -1) 25 dX1_access_24 rfl rfl ?_
  refine x_icmp_eq 41 28 dX1_access_25 (by decide) rfl (fun c25 => ?_) (fun c25 => ?_)
  · skip
    refine x_aload_n 42 dX1_access_41 rfl rfl ?_
    refine x_geti 45 dX1_access_42 rfl fl_X1_291 (hT.ks.l0 (by omega)) ?_
    refine x_vi (w := I 0 0 21) rfl ?_
    refine x_bipush (v := 16) 47 dX1_access_45 rfl rfl ?_
    refine x_icmp_ne 65 50 dX1_access_47 (by decide) rfl (fun c47 => ?_) (fun c47 => ?_)
    · skip
      refine x_iload 67 dX1_access_65 rfl rfl ?_
      refine x_if_eq 149 70 dX1_access_67 (by decide) rfl (fun c67 => ?_) (fun c67 => ?_)
      · skip
        have hmt : x1 = kMeet (I, R, th) g oa p q w := (by rw [hx1]; unfold kMeet; rw [if_pos c25])
        have hz : kMeet (I, R, th) g oa p q w = 0 := hmt.symm.trans c67
        unfold kAccess at hq; rw [if_pos hz] at hq
        exact t_X1_access hT hK hoa hmm (by omega) (hq.1 rfl)
      · skip
        refine x_aload_n 71 dX1_access_70 rfl rfl ?_
        refine x_getz 74 dX1_access_71 rfl fl_X1_39 (hT.ks.l0 (by omega)) (hT.ks.z0_8 (by omega)) ?_
        refine x_astore 76 [(1, .ref (x.ad 0 0)), (1, .int g), (1, .int oa), (2, .long p), xo, (2, .long q), xo, (1, .int w), (1, .int x1), (1, .ref (x.ad 26 0)), xo, xo, xo] dX1_access_74 rfl (by decide) rfl ?_
        refine x_aload 78 dX1_access_76 rfl rfl ?_
        refine x_alen 79 dX1_access_78 rfl ar_26 (hT.ks.l26 (by omega)) ?_
        refine x_vi (congrArg nI (hT.ks.n26 (by omega))) ?_
        refine x_istore 81 [(1, .ref (x.ad 0 0)), (1, .int g), (1, .int oa), (2, .long p), xo, (2, .long q), xo, (1, .int w), (1, .int x1), (1, .ref (x.ad 26 0)), (1, .int (nI 16)), xo, xo] dX1_access_79 rfl (by decide) rfl ?_
        refine x_iconst (v := 0) 82 dX1_access_81 rfl rfl ?_
        refine x_istore 84 [(1, .ref (x.ad 0 0)), (1, .int g), (1, .int oa), (2, .long p), xo, (2, .long q), xo, (1, .int w), (1, .int x1), (1, .ref (x.ad 26 0)), (1, .int (nI 16)), (1, .int 0), xo] dX1_access_82 rfl (by decide) rfl ?_
        have hmt : x1 = kMeet (I, R, th) g oa p q w := (by rw [hx1]; unfold kMeet; rw [if_pos c25])
        have hz : ¬ kMeet (I, R, th) g oa p q w = 0 := fun h => c67 (hmt.trans h)
        unfold kAccess at hq; rw [if_neg hz, if_neg c47, ← hmt] at hq
        refine l_X1_access hT hK hme hme16 (fun hno => ?_) (fun hex => ?_) 0 (by omega) (by omega) (fun p_ hp => absurd hp (by omega))
        · rw [cif_f (show ¬ kOlder (I, R, th) x1 me from fun ⟨p_, h1, h2⟩ => hno p_ h1 h2)] at hq
          have hq2 := hq.1 rfl
          refine x_aload_n 144 dX1_access_143 rfl rfl ?_
          refine x_iload 146 dX1_access_144 rfl rfl ?_
          refine x_callV (as := [.int x1]) (rest := []) (i := 0) (n' := n - 1) 149 dX1_access_146 rfl mv_X1_375 rfl rfl (hT.ks.l0 (by omega)) (xnh rfl) (by omega) (xst (Nat.le_of_ble_eq_true rfl)) (c_X1_abortAll hT hK (by omega) ?_)
          · skip
            intro w1 hU1
            change X _ _ _ _ _ _ _ _ _ _
            exact t_X1_access hU1 (hK.abAll (w := x1)) hoa hmm (by omega) hq2
        · rw [cif_t (show kOlder (I, R, th) x1 me from hex)] at hq; exact hq.2 (show ¬ (-9 : Int32) = 0 by decide) _ hT
    · skip
      refine x_iload 52 dX1_access_50 rfl rfl ?_
      refine x_if_eq 149 55 dX1_access_52 (by decide) rfl (fun c52 => ?_) (fun c52 => ?_)
      · skip
        have hmt : x1 = kMeet (I, R, th) g oa p q w := (by rw [hx1]; unfold kMeet; rw [if_pos c25])
        have hz : kMeet (I, R, th) g oa p q w = 0 := hmt.symm.trans c52
        unfold kAccess at hq; rw [if_pos hz] at hq
        exact t_X1_access hT hK hoa hmm (by omega) (hq.1 rfl)
      · skip
        refine x_aload_n 56 dX1_access_55 rfl rfl ?_
        refine x_getz 59 dX1_access_56 rfl fl_X1_53 (hT.ks.l0 (by omega)) (hT.ks.z0_10 (by omega)) ?_
        refine x_bipush (v := -8) 61 dX1_access_59 rfl rfl ?_
        refine x_callV (as := [.int (-8)]) (rest := []) (i := 0) (n' := n - 1) 64 dX1_access_61 rfl mv_X1_364 rfl rfl (hT.ks.l3 (by omega)) (xnh rfl) (by omega) (xst (Nat.le_of_ble_eq_true rfl)) (c_X4_by hT.ks (by omega) ?_)
        change X _ _ _ _ _ _ _ _ _ _
        refine k_nmA (v := v) (A1 := (xu I 3 0 0 ((-8)))) (by (repeat (first | rw [kI_xu] | rw [kI_xur] | rw [kI_xfil])) <;> rfl) fun I1 hI1 => ?_
        refine x_athrow dX1_access_64 (xnh rfl) ?_
        have hmt : x1 = kMeet (I, R, th) g oa p q w := (by rw [hx1]; unfold kMeet; rw [if_pos c25])
        have hz : ¬ kMeet (I, R, th) g oa p q w = 0 := fun h => c52 (hmt.trans h)
        unfold kAccess at hq; rw [if_neg hz, if_pos c47] at hq
        rw [hI1]
        exact hq.2 (show ¬ (-8 : Int32) = 0 by decide) _ hT
  · skip
    refine x_iload 30 dX1_access_28 rfl rfl ?_
    refine x_iconst (v := 1) 31 dX1_access_30 rfl rfl ?_
    refine x_aload_n 32 dX1_access_31 rfl rfl ?_
    refine x_geti 35 dX1_access_32 rfl fl_X1_67 (hT.ks.l0 (by omega)) ?_
    refine x_vi (w := I 0 0 22) rfl ?_
    refine x_ishl 36 dX1_access_35 rfl ?_
    refine x_iconst (v := -1) 37 dX1_access_36 rfl rfl ?_
    refine x_ixor 38 dX1_access_37 rfl ?_
    refine x_iand 39 dX1_access_38 rfl ?_
    refine x_nmi fun x2 hx2 => ?_
    refine x_istore 41 [(1, .ref (x.ad 0 0)), (1, .int g), (1, .int oa), (2, .long p), xo, (2, .long q), xo, (1, .int w), (1, .int x2), xo, xo, xo, xo] dX1_access_39 rfl (by decide) rfl ?_
    refine x_aload_n 42 dX1_access_41 rfl rfl ?_
    refine x_geti 45 dX1_access_42 rfl fl_X1_291 (hT.ks.l0 (by omega)) ?_
    refine x_vi (w := I 0 0 21) rfl ?_
    refine x_bipush (v := 16) 47 dX1_access_45 rfl rfl ?_
    refine x_icmp_ne 65 50 dX1_access_47 (by decide) rfl (fun c47 => ?_) (fun c47 => ?_)
    · skip
      refine x_iload 67 dX1_access_65 rfl rfl ?_
      refine x_if_eq 149 70 dX1_access_67 (by decide) rfl (fun c67 => ?_) (fun c67 => ?_)
      · skip
        have hmt : x2 = kMeet (I, R, th) g oa p q w := (by rw [hx2, hx1]; unfold kMeet; rw [if_neg c25])
        have hz : kMeet (I, R, th) g oa p q w = 0 := hmt.symm.trans c67
        unfold kAccess at hq; rw [if_pos hz] at hq
        exact t_X1_access hT hK hoa hmm (by omega) (hq.1 rfl)
      · skip
        refine x_aload_n 71 dX1_access_70 rfl rfl ?_
        refine x_getz 74 dX1_access_71 rfl fl_X1_39 (hT.ks.l0 (by omega)) (hT.ks.z0_8 (by omega)) ?_
        refine x_astore 76 [(1, .ref (x.ad 0 0)), (1, .int g), (1, .int oa), (2, .long p), xo, (2, .long q), xo, (1, .int w), (1, .int x2), (1, .ref (x.ad 26 0)), xo, xo, xo] dX1_access_74 rfl (by decide) rfl ?_
        refine x_aload 78 dX1_access_76 rfl rfl ?_
        refine x_alen 79 dX1_access_78 rfl ar_26 (hT.ks.l26 (by omega)) ?_
        refine x_vi (congrArg nI (hT.ks.n26 (by omega))) ?_
        refine x_istore 81 [(1, .ref (x.ad 0 0)), (1, .int g), (1, .int oa), (2, .long p), xo, (2, .long q), xo, (1, .int w), (1, .int x2), (1, .ref (x.ad 26 0)), (1, .int (nI 16)), xo, xo] dX1_access_79 rfl (by decide) rfl ?_
        refine x_iconst (v := 0) 82 dX1_access_81 rfl rfl ?_
        refine x_istore 84 [(1, .ref (x.ad 0 0)), (1, .int g), (1, .int oa), (2, .long p), xo, (2, .long q), xo, (1, .int w), (1, .int x2), (1, .ref (x.ad 26 0)), (1, .int (nI 16)), (1, .int 0), xo] dX1_access_82 rfl (by decide) rfl ?_
        have hmt : x2 = kMeet (I, R, th) g oa p q w := (by rw [hx2, hx1]; unfold kMeet; rw [if_neg c25])
        have hz : ¬ kMeet (I, R, th) g oa p q w = 0 := fun h => c67 (hmt.trans h)
        unfold kAccess at hq; rw [if_neg hz, if_neg c47, ← hmt] at hq
        refine l_X1_access hT hK hme hme16 (fun hno => ?_) (fun hex => ?_) 0 (by omega) (by omega) (fun p_ hp => absurd hp (by omega))
        · rw [cif_f (show ¬ kOlder (I, R, th) x2 me from fun ⟨p_, h1, h2⟩ => hno p_ h1 h2)] at hq
          have hq2 := hq.1 rfl
          refine x_aload_n 144 dX1_access_143 rfl rfl ?_
          refine x_iload 146 dX1_access_144 rfl rfl ?_
          refine x_callV (as := [.int x2]) (rest := []) (i := 0) (n' := n - 1) 149 dX1_access_146 rfl mv_X1_375 rfl rfl (hT.ks.l0 (by omega)) (xnh rfl) (by omega) (xst (Nat.le_of_ble_eq_true rfl)) (c_X1_abortAll hT hK (by omega) ?_)
          · skip
            intro w1 hU1
            change X _ _ _ _ _ _ _ _ _ _
            exact t_X1_access hU1 (hK.abAll (w := x2)) hoa hmm (by omega) hq2
        · rw [cif_t (show kOlder (I, R, th) x2 me from hex)] at hq; exact hq.2 (show ¬ (-9 : Int32) = 0 by decide) _ hT
    · skip
      refine x_iload 52 dX1_access_50 rfl rfl ?_
      refine x_if_eq 149 55 dX1_access_52 (by decide) rfl (fun c52 => ?_) (fun c52 => ?_)
      · skip
        have hmt : x2 = kMeet (I, R, th) g oa p q w := (by rw [hx2, hx1]; unfold kMeet; rw [if_neg c25])
        have hz : kMeet (I, R, th) g oa p q w = 0 := hmt.symm.trans c52
        unfold kAccess at hq; rw [if_pos hz] at hq
        exact t_X1_access hT hK hoa hmm (by omega) (hq.1 rfl)
      · skip
        refine x_aload_n 56 dX1_access_55 rfl rfl ?_
        refine x_getz 59 dX1_access_56 rfl fl_X1_53 (hT.ks.l0 (by omega)) (hT.ks.z0_10 (by omega)) ?_
        refine x_bipush (v := -8) 61 dX1_access_59 rfl rfl ?_
        refine x_callV (as := [.int (-8)]) (rest := []) (i := 0) (n' := n - 1) 64 dX1_access_61 rfl mv_X1_364 rfl rfl (hT.ks.l3 (by omega)) (xnh rfl) (by omega) (xst (Nat.le_of_ble_eq_true rfl)) (c_X4_by hT.ks (by omega) ?_)
        change X _ _ _ _ _ _ _ _ _ _
        refine k_nmA (v := v) (A1 := (xu I 3 0 0 ((-8)))) (by (repeat (first | rw [kI_xu] | rw [kI_xur] | rw [kI_xfil])) <;> rfl) fun I1 hI1 => ?_
        refine x_athrow dX1_access_64 (xnh rfl) ?_
        have hmt : x2 = kMeet (I, R, th) g oa p q w := (by rw [hx2, hx1]; unfold kMeet; rw [if_neg c25])
        have hz : ¬ kMeet (I, R, th) g oa p q w = 0 := fun h => c52 (hmt.trans h)
        unfold kAccess at hq; rw [if_neg hz, if_pos c47] at hq
        rw [hI1]
        exact hq.2 (show ¬ (-8 : Int32) = 0 by decide) _ hT
