set_option maxRecDepth 100000
def xset1 (L : List (Nat × Value)) (i : Nat) (v : Value) : List (Nat × Value) := match i with
  | 0 => L.set 0 (1, v)
  | j + 1 => (if (L.getD j xo).1 = 2 then L.set j xo else L).set (j + 1) (1, v)
def xset2 (L : List (Nat × Value)) (i : Nat) (v : Value) : List (Nat × Value) := match i with
  | 0 => (L.set 0 (2, v)).set 1 xo
  | j + 1 => ((if (L.getD j xo).1 = 2 then L.set j xo else L).set (j + 1) (2, v)).set (j + 2) xo
def xl (L : List (Nat × Value)) : List (Nat × Value) := L.zipIdx.filterMap fun q => if q.1.1 = 0 then none else some (q.2, q.1.2)
theorem xl_mem {L : List (Nat × Value)} {j : Nat} {w : Value} : (j, w) ∈ xl L ↔ ∃ t, t ≠ 0 ∧ L[j]? = some (t, w) := by
  unfold xl
  rw [List.mem_filterMap]
  constructor
  · rintro ⟨⟨⟨t, w'⟩, j'⟩, hm, he⟩
    rw [List.mem_zipIdx_iff_getElem?] at hm
    by_cases h : t = 0
    · simp [h] at he
    · simp [h] at he
      obtain ⟨rfl, rfl⟩ := he
      exact ⟨t, h, hm⟩
  · rintro ⟨t, ht, hj⟩
    exact ⟨((t, w), j), List.mem_zipIdx_iff_getElem?.mpr hj, by simp [ht]⟩
theorem xLs.has {ls : Array Slot} {nL : Nat} {L : List (Nat × Value)} (h : xLs ls nL L) : lv_has ls nL (xl L) := by
  refine ⟨h.1, h.2.1, ?_⟩
  rintro ⟨j, w⟩ hq
  obtain ⟨t, ht, hj⟩ := xl_mem.mp hq
  rcases h.2.2.2 j t w hj with q | q
  · exact absurd q ht
  · exact q.2
theorem xset1_get {L : List (Nat × Value)} {i : Nat} {v : Value} {j t : Nat} {w : Value} (h : (xset1 L i v)[j]? = some (t, w)) :
    t = 0 ∨ (j = i ∧ t = 1 ∧ w = v) ∨ (j ≠ i ∧ L[j]? = some (t, w) ∧ ¬ (j + 1 = i ∧ t = 2)) := by
  cases i with
  | zero =>
    simp only [xset1, List.getElem?_set] at h
    by_cases hj : 0 = j
    · subst hj
      by_cases hl : 0 < L.length <;> simp [hl] at h
      exact Or.inr (Or.inl ⟨rfl, h.1.symm, h.2.symm⟩)
    · simp [hj] at h
      exact Or.inr (Or.inr ⟨fun q => hj q.symm, h, fun q => by omega⟩)
  | succ i =>
    simp only [xset1, List.getElem?_set] at h
    by_cases hj : i + 1 = j
    · subst hj
      generalize (if (L.getD i xo).1 = 2 then L.set i xo else L) = L1 at h
      by_cases hl : i + 1 < L1.length <;> simp [hl] at h
      exact Or.inr (Or.inl ⟨rfl, h.1.symm, h.2.symm⟩)
    · rw [if_neg hj] at h
      by_cases h2 : (L.getD i xo).1 = 2
      · rw [if_pos h2, List.getElem?_set] at h
        by_cases hi : i = j
        · subst hi
          by_cases hl : i < L.length <;> simp [hl, xo] at h
          exact Or.inl h.1.symm
        · simp [hi] at h
          exact Or.inr (Or.inr ⟨fun q => hj q.symm, h, fun q => hi (by omega)⟩)
      · rw [if_neg h2] at h
        refine Or.inr (Or.inr ⟨fun q => hj q.symm, h, fun q => ?_⟩)
        have e : j = i := by omega
        subst e
        apply h2
        rw [List.getD_eq_getElem?_getD, h]
        exact q.2
theorem xset1_len {L : List (Nat × Value)} {i : Nat} {v : Value} : (xset1 L i v).length = L.length := by
  cases i with
  | zero => simp [xset1]
  | succ i => simp only [xset1, List.length_set]; split <;> simp
theorem xset2_get {L : List (Nat × Value)} {i : Nat} {v : Value} {j t : Nat} {w : Value} (h : (xset2 L i v)[j]? = some (t, w)) :
    t = 0 ∨ (j = i ∧ t = 2 ∧ w = v) ∨ (j ≠ i ∧ j ≠ i + 1 ∧ L[j]? = some (t, w) ∧ ¬ (j + 1 = i ∧ t = 2)) := by
  cases i with
  | zero =>
    simp only [xset2, List.getElem?_set, List.length_set] at h
    by_cases h1 : 1 = j
    · subst h1
      by_cases hl : 1 < L.length <;> simp [hl, xo] at h
      exact Or.inl h.1.symm
    · rw [if_neg h1] at h
      by_cases hj : 0 = j
      · subst hj
        by_cases hl : 0 < L.length <;> simp [hl] at h
        exact Or.inr (Or.inl ⟨rfl, h.1.symm, h.2.symm⟩)
      · simp [hj] at h
        exact Or.inr (Or.inr ⟨fun q => hj q.symm, fun q => h1 (by omega), h, fun q => by omega⟩)
  | succ i =>
    simp only [xset2, List.getElem?_set, List.length_set] at h
    by_cases h1 : i + 2 = j
    · subst h1
      generalize (if (L.getD i xo).1 = 2 then L.set i xo else L) = L1 at h
      by_cases hl : i + 2 < L1.length <;> simp [hl, xo] at h
      exact Or.inl h.1.symm
    · rw [if_neg h1] at h
      by_cases hj : i + 1 = j
      · subst hj
        generalize (if (L.getD i xo).1 = 2 then L.set i xo else L) = L1 at h
        by_cases hl : i + 1 < L1.length <;> simp [hl] at h
        exact Or.inr (Or.inl ⟨rfl, h.1.symm, h.2.symm⟩)
      · rw [if_neg hj] at h
        by_cases h2 : (L.getD i xo).1 = 2
        · rw [if_pos h2, List.getElem?_set] at h
          by_cases hi : i = j
          · subst hi
            by_cases hl : i < L.length <;> simp [hl, xo] at h
            exact Or.inl h.1.symm
          · simp [hi] at h
            exact Or.inr (Or.inr ⟨fun q => hj q.symm, fun q => h1 (by omega), h, fun q => hi (by omega)⟩)
        · rw [if_neg h2] at h
          refine Or.inr (Or.inr ⟨fun q => hj q.symm, fun q => h1 (by omega), h, fun q => ?_⟩)
          have e : j = i := by omega
          subst e
          apply h2
          rw [List.getD_eq_getElem?_getD, h]
          exact q.2
theorem xset2_len {L : List (Nat × Value)} {i : Nat} {v : Value} : (xset2 L i v).length = L.length := by
  cases i with
  | zero => simp [xset2]
  | succ i => simp only [xset2, List.length_set]; split <;> simp
theorem xLs.store1 {ls ls' : Array Slot} {nL i : Nat} {v : Value} {L : List (Nat × Value)} (h : xLs ls nL L) (hc : v.category = 1) (h' : lv_has ls' nL ((i, v) :: (xl L).filter (fun q => !(q.1 == i) && !(q.1 + 1 == i && q.2.category == 2)))) : xLs ls' nL (xset1 L i v) := by
  refine ⟨h'.1, h'.2.1, by rw [xset1_len]; exact h.2.2.1, fun j t w hj => ?_⟩
  rcases xset1_get hj with q | ⟨rfl, rfl, rfl⟩ | ⟨q1, q2, q3⟩
  · exact Or.inl q
  · exact Or.inr ⟨hc.symm, h'.2.2 (j, w) List.mem_cons_self⟩
  · rcases h.2.2.2 j t w q2 with q | ⟨q, -⟩
    · exact Or.inl q
    · by_cases ht : t = 0
      · exact Or.inl ht
      · refine Or.inr ⟨q, h'.2.2 (j, w) (List.mem_cons_of_mem _ (List.mem_filter.mpr ⟨xl_mem.mpr ⟨t, ht, q2⟩, ?_⟩))⟩
        simp only [Bool.and_eq_true, Bool.not_eq_true', beq_eq_false_iff_ne, Bool.and_eq_false_iff]
        refine ⟨q1, ?_⟩
        by_cases e : j + 1 = i
        · right
          exact fun e2 => q3 ⟨e, by rw [q]; exact e2⟩
        · exact Or.inl e
theorem xLs.store2 {ls ls' : Array Slot} {nL i : Nat} {v : Value} {L : List (Nat × Value)} (h : xLs ls nL L) (hc : v.category = 2) (h' : lv_has ls' nL ((i, v) :: (xl L).filter (fun q => !(q.1 == i) && (!(q.1 == i + 1) && !(q.1 + 1 == i && q.2.category == 2))))) : xLs ls' nL (xset2 L i v) := by
  refine ⟨h'.1, h'.2.1, by rw [xset2_len]; exact h.2.2.1, fun j t w hj => ?_⟩
  rcases xset2_get hj with q | ⟨rfl, rfl, rfl⟩ | ⟨q1, q0, q2, q3⟩
  · exact Or.inl q
  · exact Or.inr ⟨hc.symm, h'.2.2 (j, w) List.mem_cons_self⟩
  · rcases h.2.2.2 j t w q2 with q | ⟨q, -⟩
    · exact Or.inl q
    · by_cases ht : t = 0
      · exact Or.inl ht
      · refine Or.inr ⟨q, h'.2.2 (j, w) (List.mem_cons_of_mem _ (List.mem_filter.mpr ⟨xl_mem.mpr ⟨t, ht, q2⟩, ?_⟩))⟩
        simp only [Bool.and_eq_true, Bool.not_eq_true', beq_eq_false_iff_ne, Bool.and_eq_false_iff]
        refine ⟨q1, q0, ?_⟩
        by_cases e : j + 1 = i
        · right
          exact fun e2 => q3 ⟨e, by rw [q]; exact e2⟩
        · exact Or.inl e
section XR
variable {G : xG} {M : xM} {n a b : Nat} {Q : Outcome → xS → Prop} {z : xS} {pc : Nat} {L L' : List (Nat × Value)} {st st' : List Value}

theorem x_iadd {x y : Int32} (q : Nat) (hd : decode M.cc pc = .ok (.iadd, 1)) (hq : pc + 1 = q) (kk : X G M n a b Q z q L (.int (x + y) :: st)) : X G M n a b Q z pc L (.int y :: .int x :: st) := by
  subst hq; exact X.one _ (fun hC _ _ k => lv_iadd hC.xx hC.bb hd k) kk
theorem x_isub {x y : Int32} (q : Nat) (hd : decode M.cc pc = .ok (.isub, 1)) (hq : pc + 1 = q) (kk : X G M n a b Q z q L (.int (x - y) :: st)) : X G M n a b Q z pc L (.int y :: .int x :: st) := by
  subst hq; exact X.one _ (fun hC _ _ k => lv_isub hC.xx hC.bb hd k) kk
theorem x_imul {x y : Int32} (q : Nat) (hd : decode M.cc pc = .ok (.imul, 1)) (hq : pc + 1 = q) (kk : X G M n a b Q z q L (.int (x * y) :: st)) : X G M n a b Q z pc L (.int y :: .int x :: st) := by
  subst hq; exact X.one _ (fun hC _ _ k => lv_imul hC.xx hC.bb hd k) kk
theorem x_iand {x y : Int32} (q : Nat) (hd : decode M.cc pc = .ok (.iand, 1)) (hq : pc + 1 = q) (kk : X G M n a b Q z q L (.int (x &&& y) :: st)) : X G M n a b Q z pc L (.int y :: .int x :: st) := by
  subst hq; exact X.one _ (fun hC _ _ k => lv_iand hC.xx hC.bb hd k) kk
theorem x_ior {x y : Int32} (q : Nat) (hd : decode M.cc pc = .ok (.ior, 1)) (hq : pc + 1 = q) (kk : X G M n a b Q z q L (.int (x ||| y) :: st)) : X G M n a b Q z pc L (.int y :: .int x :: st) := by
  subst hq; exact X.one _ (fun hC _ _ k => lv_ior hC.xx hC.bb hd k) kk
theorem x_ixor {x y : Int32} (q : Nat) (hd : decode M.cc pc = .ok (.ixor, 1)) (hq : pc + 1 = q) (kk : X G M n a b Q z q L (.int (x ^^^ y) :: st)) : X G M n a b Q z pc L (.int y :: .int x :: st) := by
  subst hq; exact X.one _ (fun hC _ _ k => lv_ixor hC.xx hC.bb hd k) kk
theorem x_ishl {x y : Int32} (q : Nat) (hd : decode M.cc pc = .ok (.ishl, 1)) (hq : pc + 1 = q) (kk : X G M n a b Q z q L (.int (x <<< (y &&& 31)) :: st)) : X G M n a b Q z pc L (.int y :: .int x :: st) := by
  subst hq; exact X.one _ (fun hC _ _ k => lv_ishl hC.xx hC.bb hd k) kk
theorem x_ishr {x y : Int32} (q : Nat) (hd : decode M.cc pc = .ok (.ishr, 1)) (hq : pc + 1 = q) (kk : X G M n a b Q z q L (.int (x >>> (y &&& 31)) :: st)) : X G M n a b Q z pc L (.int y :: .int x :: st) := by
  subst hq; exact X.one _ (fun hC _ _ k => lv_ishr hC.xx hC.bb hd k) kk
theorem x_ladd {x y : Int64} (q : Nat) (hd : decode M.cc pc = .ok (.ladd, 1)) (hq : pc + 1 = q) (kk : X G M n a b Q z q L (.long (x + y) :: st)) : X G M n a b Q z pc L (.long y :: .long x :: st) := by
  subst hq; exact X.one _ (fun hC _ _ k => lv_ladd hC.xx hC.bb hd k) kk
theorem x_lsub {x y : Int64} (q : Nat) (hd : decode M.cc pc = .ok (.lsub, 1)) (hq : pc + 1 = q) (kk : X G M n a b Q z q L (.long (x - y) :: st)) : X G M n a b Q z pc L (.long y :: .long x :: st) := by
  subst hq; exact X.one _ (fun hC _ _ k => lv_lsub hC.xx hC.bb hd k) kk
theorem x_lor {x y : Int64} (q : Nat) (hd : decode M.cc pc = .ok (.lor, 1)) (hq : pc + 1 = q) (kk : X G M n a b Q z q L (.long (x ||| y) :: st)) : X G M n a b Q z pc L (.long y :: .long x :: st) := by
  subst hq; exact X.one _ (fun hC _ _ k => lv_lor hC.xx hC.bb hd k) kk
theorem x_lxor {x y : Int64} (q : Nat) (hd : decode M.cc pc = .ok (.lxor, 1)) (hq : pc + 1 = q) (kk : X G M n a b Q z q L (.long (x ^^^ y) :: st)) : X G M n a b Q z pc L (.long y :: .long x :: st) := by
  subst hq; exact X.one _ (fun hC _ _ k => lv_lxor hC.xx hC.bb hd k) kk
theorem x_land {x y : Int64} (q : Nat) (hd : decode M.cc pc = .ok (.land, 1)) (hq : pc + 1 = q) (kk : X G M n a b Q z q L (.long (x &&& y) :: st)) : X G M n a b Q z pc L (.long y :: .long x :: st) := by
  subst hq; exact X.one _ (fun hC _ _ k => lv_land hC.xx hC.bb hd k) kk
theorem x_lmul {x y : Int64} (q : Nat) (hd : decode M.cc pc = .ok (.lmul, 1)) (hq : pc + 1 = q) (kk : X G M n a b Q z q L (.long (x * y) :: st)) : X G M n a b Q z pc L (.long y :: .long x :: st) := by
  subst hq; exact X.one _ (fun hC _ _ k => lv_lmul hC.xx hC.bb hd k) kk
theorem x_idiv {x y : Int32} (q : Nat) (hd : decode M.cc pc = .ok (.idiv, 1)) (hq : pc + 1 = q) (hne : ¬ y = 0) (kk : X G M n a b Q z q L (.int (x / y) :: st)) : X G M n a b Q z pc L (.int y :: .int x :: st) := by
  subst hq; exact X.one _ (fun hC _ _ k => lv_idiv hC.xx hC.bb hd hne k) kk
theorem x_irem {x y : Int32} (q : Nat) (hd : decode M.cc pc = .ok (.irem, 1)) (hq : pc + 1 = q) (hne : ¬ y = 0) (kk : X G M n a b Q z q L (.int (x - x / y * y) :: st)) : X G M n a b Q z pc L (.int y :: .int x :: st) := by
  subst hq; exact X.one _ (fun hC _ _ k => lv_irem hC.xx hC.bb hd hne k) kk
theorem x_ineg {x : Int32} (q : Nat) (hd : decode M.cc pc = .ok (.ineg, 1)) (hq : pc + 1 = q) (kk : X G M n a b Q z q L (.int (-x) :: st)) : X G M n a b Q z pc L (.int x :: st) := by
  subst hq; exact X.one _ (fun hC _ _ k => lv_ineg hC.xx hC.bb hd k) kk
theorem x_iushr {x y : Int32} (q : Nat) (hd : decode M.cc pc = .ok (.iushr, 1)) (hq : pc + 1 = q) (kk : X G M n a b Q z q L (.int (x.toUInt32 >>> (y.toUInt32 &&& Int32.toUInt32 31)).toInt32 :: st)) : X G M n a b Q z pc L (.int y :: .int x :: st) := by
  subst hq; exact X.one _ (fun hC _ _ k => lv_iushr hC.xx hC.bb hd rfl k) kk
theorem x_lshl {x : Int64} {y : Int32} (q : Nat) (hd : decode M.cc pc = .ok (.lshl, 1)) (hq : pc + 1 = q) (kk : X G M n a b Q z q L (.long (x <<< (y.toInt64 &&& 63)) :: st)) : X G M n a b Q z pc L (.int y :: .long x :: st) := by
  subst hq; exact X.one _ (fun hC _ _ k => lv_lshl hC.xx hC.bb hd rfl k) kk
theorem x_lshr {x : Int64} {y : Int32} (q : Nat) (hd : decode M.cc pc = .ok (.lshr, 1)) (hq : pc + 1 = q) (kk : X G M n a b Q z q L (.long (x >>> (y.toInt64 &&& 63)) :: st)) : X G M n a b Q z pc L (.int y :: .long x :: st) := by
  subst hq; exact X.one _ (fun hC _ _ k => lv_lshr hC.xx hC.bb hd rfl k) kk
theorem x_lushr {x : Int64} {y : Int32} (q : Nat) (hd : decode M.cc pc = .ok (.lushr, 1)) (hq : pc + 1 = q) (kk : X G M n a b Q z q L (.long ((x.toUInt64 >>> (y.toInt64.toUInt64 &&& Int64.toUInt64 63)).toInt64) :: st)) : X G M n a b Q z pc L (.int y :: .long x :: st) := by
  subst hq; exact X.one _ (fun hC _ _ k => lv_lushr hC.xx hC.bb hd rfl k) kk
theorem x_i2l {x : Int32} (q : Nat) (hd : decode M.cc pc = .ok (.i2l, 1)) (hq : pc + 1 = q) (kk : X G M n a b Q z q L (.long (x.toInt64) :: st)) : X G M n a b Q z pc L (.int x :: st) := by
  subst hq; exact X.one _ (fun hC _ _ k => lv_i2l hC.xx hC.bb hd rfl k) kk
theorem x_l2i {x : Int64} (q : Nat) (hd : decode M.cc pc = .ok (.l2i, 1)) (hq : pc + 1 = q) (kk : X G M n a b Q z q L (.int (x.toInt32) :: st)) : X G M n a b Q z pc L (.long x :: st) := by
  subst hq; exact X.one _ (fun hC _ _ k => lv_l2i hC.xx hC.bb hd rfl k) kk
theorem x_i2b {x : Int32} (q : Nat) (hd : decode M.cc pc = .ok (.i2b, 1)) (hq : pc + 1 = q) (kk : X G M n a b Q z q L (.int (x.toInt8.toInt32) :: st)) : X G M n a b Q z pc L (.int x :: st) := by
  subst hq; exact X.one _ (fun hC _ _ k => lv_i2b hC.xx hC.bb hd rfl k) kk
theorem x_lcmp {x y : Int64} (q : Nat) (hd : decode M.cc pc = .ok (.lcmp, 1)) (hq : pc + 1 = q) (kk : X G M n a b Q z q L (.int (lg_cmp x y) :: st)) : X G M n a b Q z pc L (.long y :: .long x :: st) := by
  subst hq; exact X.one _ (fun hC _ _ k => W.lcmp hC.xx hC.bb hd k) kk
theorem x_ldc2 {idx : Nat} {v : Int64} (q : Nat) (hd : decode M.cc pc = .ok (.ldc2_w idx, 3)) (hq : pc + 3 = q) (hw : Jvm.Cond.constantLong M.y.cls idx v ∈ lw_all) (kk : X G M n a b Q z q L (.long v :: st)) : X G M n a b Q z pc L st := by
  subst hq; exact X.one _ (fun hC _ _ k => lv_ldc2 hC.xx hC.bb hC.own (hC.ww _ hw) hd k) kk
theorem x_dup {v : Value} (q : Nat) (hd : decode M.cc pc = .ok (.dup, 1)) (hq : pc + 1 = q) (hv : v.category = 1) (kk : X G M n a b Q z q L (v :: v :: st)) : X G M n a b Q z pc L (v :: st) := by
  subst hq; exact X.one _ (fun hC _ _ k => lv_dup hC.xx hC.bb hd hv k) kk
theorem x_pop {v : Value} (q : Nat) (hd : decode M.cc pc = .ok (.pop, 1)) (hq : pc + 1 = q) (hv : v.category = 1) (kk : X G M n a b Q z q L st) : X G M n a b Q z pc L (v :: st) := by
  subst hq; exact X.one _ (fun hC _ _ k => lv_pop hC.xx hC.bb hd hv k) kk
theorem x_dup_x1 {v w : Value} (q : Nat) (hd : decode M.cc pc = .ok (.dup_x1, 1)) (hq : pc + 1 = q) (hv : v.category = 1) (hw : w.category = 1) (kk : X G M n a b Q z q L (v :: w :: v :: st)) : X G M n a b Q z pc L (v :: w :: st) := by
  subst hq; exact X.one _ (fun hC _ _ k => lv_dup_x1 hC.xx hC.bb hd hv hw k) kk
theorem x_dup2 {v w : Value} (q : Nat) (hd : decode M.cc pc = .ok (.dup2, 1)) (hq : pc + 1 = q) (hv : v.category = 1) (hw : w.category = 1) (kk : X G M n a b Q z q L (v :: w :: v :: w :: st)) : X G M n a b Q z pc L (v :: w :: st) := by
  subst hq; exact X.one _ (fun hC _ _ k => lv_dup2_11 hC.xx hC.bb hd hv hw k) kk
theorem x_istore {x : Int32} {i : Nat} (q : Nat) (L' : List (Nat × Value)) (hd : decode M.cc pc = .ok (.istore i, 2)) (hq : pc + 2 = q) (hi : i < M.nL) (hL' : xset1 L i (.int x) = L') (kk : X G M n a b Q z q L' st) : X G M n a b Q z pc L (.int x :: st) := by
  subst hq; subst hL'
  intro p e R s m args below meth c hC H locs ls hH h1 h2 hl hL
  exact lv_istore hC.xx hC.bb hd hL.has hi rfl (fun ls' h' => kk p e R s m args below meth c hC H locs ls' hH h1 h2 hl (hL.store1 rfl h'))
theorem x_istore_n {x : Int32} {i : Fin 4} (q : Nat) (L' : List (Nat × Value)) (hd : decode M.cc pc = .ok (.istore_n i, 1)) (hq : pc + 1 = q) (hi : (i : Nat) < M.nL) (hL' : xset1 L (i : Nat) (.int x) = L') (kk : X G M n a b Q z q L' st) : X G M n a b Q z pc L (.int x :: st) := by
  subst hq; subst hL'
  intro p e R s m args below meth c hC H locs ls hH h1 h2 hl hL
  exact lv_istore_n hC.xx hC.bb hd rfl hL.has hi rfl (fun ls' h' => kk p e R s m args below meth c hC H locs ls' hH h1 h2 hl (hL.store1 rfl h'))
theorem x_lstore {x : Int64} {i : Nat} (q : Nat) (L' : List (Nat × Value)) (hd : decode M.cc pc = .ok (.lstore i, 2)) (hq : pc + 2 = q) (hi : i + 1 < M.nL) (hL' : xset2 L i (.long x) = L') (kk : X G M n a b Q z q L' st) : X G M n a b Q z pc L (.long x :: st) := by
  subst hq; subst hL'
  intro p e R s m args below meth c hC H locs ls hH h1 h2 hl hL
  exact lv_lstore hC.xx hC.bb hd hL.has hi rfl (fun ls' h' => kk p e R s m args below meth c hC H locs ls' hH h1 h2 hl (hL.store2 rfl h'))
theorem x_lstore_n {x : Int64} {i : Fin 4} (q : Nat) (L' : List (Nat × Value)) (hd : decode M.cc pc = .ok (.lstore_n i, 1)) (hq : pc + 1 = q) (hi : (i : Nat) + 1 < M.nL) (hL' : xset2 L (i : Nat) (.long x) = L') (kk : X G M n a b Q z q L' st) : X G M n a b Q z pc L (.long x :: st) := by
  subst hq; subst hL'
  intro p e R s m args below meth c hC H locs ls hH h1 h2 hl hL
  exact lv_lstore_n hC.xx hC.bb hd rfl hL.has hi rfl (fun ls' h' => kk p e R s m args below meth c hC H locs ls' hH h1 h2 hl (hL.store2 rfl h'))
theorem x_astore {x : Nat} {i : Nat} (q : Nat) (L' : List (Nat × Value)) (hd : decode M.cc pc = .ok (.astore i, 2)) (hq : pc + 2 = q) (hi : i < M.nL) (hL' : xset1 L i (.ref x) = L') (kk : X G M n a b Q z q L' st) : X G M n a b Q z pc L (.ref x :: st) := by
  subst hq; subst hL'
  intro p e R s m args below meth c hC H locs ls hH h1 h2 hl hL
  exact lv_astore hC.xx hC.bb hd hL.has hi rfl (fun ls' h' => kk p e R s m args below meth c hC H locs ls' hH h1 h2 hl (hL.store1 rfl h'))
theorem x_astore_n {x : Nat} {i : Fin 4} (q : Nat) (L' : List (Nat × Value)) (hd : decode M.cc pc = .ok (.astore_n i, 1)) (hq : pc + 1 = q) (hi : (i : Nat) < M.nL) (hL' : xset1 L (i : Nat) (.ref x) = L') (kk : X G M n a b Q z q L' st) : X G M n a b Q z pc L (.ref x :: st) := by
  subst hq; subst hL'
  intro p e R s m args below meth c hC H locs ls hH h1 h2 hl hL
  exact lv_astore_n hC.xx hC.bb hd rfl hL.has hi rfl (fun ls' h' => kk p e R s m args below meth c hC H locs ls' hH h1 h2 hl (hL.store1 rfl h'))
theorem x_astore_r {f : Nat → Nat} {r : Option Nat} {i : Nat} (q : Nat) (L' : List (Nat × Value)) (hd : decode M.cc pc = .ok (.astore i, 2)) (hq : pc + 2 = q) (hi : i < M.nL) (hL' : xset1 L i (va_re f r) = L') (kk : X G M n a b Q z q L' st) : X G M n a b Q z pc L (va_re f r :: st) := by
  subst hq; subst hL'
  intro p e R s m args below meth c hC H locs ls hH h1 h2 hl hL
  cases r with
  | none => exact lv_astoreN hC.xx hC.bb hd hL.has hi rfl (fun ls' h' => kk p e R s m args below meth c hC H locs ls' hH h1 h2 hl (hL.store1 rfl h'))
  | some x => exact lv_astore hC.xx hC.bb hd hL.has hi rfl (fun ls' h' => kk p e R s m args below meth c hC H locs ls' hH h1 h2 hl (hL.store1 rfl h'))
theorem x_astore_nr {f : Nat → Nat} {r : Option Nat} {i : Fin 4} (q : Nat) (L' : List (Nat × Value)) (hd : decode M.cc pc = .ok (.astore_n i, 1)) (hq : pc + 1 = q) (hi : (i : Nat) < M.nL) (hL' : xset1 L (i : Nat) (va_re f r) = L') (kk : X G M n a b Q z q L' st) : X G M n a b Q z pc L (va_re f r :: st) := by
  subst hq; subst hL'
  intro p e R s m args below meth c hC H locs ls hH h1 h2 hl hL
  cases r with
  | none => exact lv_astore_nN hC.xx hC.bb hd rfl hL.has hi rfl (fun ls' h' => kk p e R s m args below meth c hC H locs ls' hH h1 h2 hl (hL.store1 rfl h'))
  | some x => exact lv_astore_n hC.xx hC.bb hd rfl hL.has hi rfl (fun ls' h' => kk p e R s m args below meth c hC H locs ls' hH h1 h2 hl (hL.store1 rfl h'))
theorem x_iinc {x v : Int32} {i : Nat} {k : Int} (q : Nat) (L' : List (Nat × Value)) (hd : decode M.cc pc = .ok (.iinc i k, 3)) (hq : pc + 3 = q) (hi : i < M.nL) (hl0 : L[i]? = some (1, .int x)) (hv : x + Int32.ofInt k = v) (hL' : xset1 L i (.int v) = L') (kk : X G M n a b Q z q L' st) : X G M n a b Q z pc L st := by
  subst hq; subst hL'
  intro p e R s m args below meth c hC H locs ls hH h1 h2 hl hL
  obtain ⟨j, hj⟩ := List.mem_iff_getElem?.mp (xl_mem.mpr ⟨1, by decide, hl0⟩)
  exact lv_iinc hC.xx hC.bb hd hL.has hj hv hi rfl (fun ls' h' => kk p e R s m args below meth c hC H locs ls' hH h1 h2 hl (hL.store1 rfl h'))
theorem X.two {q1 q2 : Nat} {c1 c2 : Prop} (h : ∀ {p : Program} {e : Env} {R : Room} {s : State} {m : MethodId} {args : Array Value} {below : List Frame} {meth : Method} {c : Code} {H : Heap} {locs : List Loc} {cells slots : Nat} {Qw : State → Prop} {ls : Array Slot},
      xC G M n a b p R s m args meth c → xH G z H → xLs ls M.nL L → (c1 → W p G.l e R s m args below meth c H locs cells slots Qw (F0 m q1 ls st')) → (c2 → W p G.l e R s m args below meth c H locs cells slots Qw (F0 m q2 ls st')) → W p G.l e R s m args below meth c H locs cells slots Qw (F0 m pc ls st))
    (k1 : c1 → X G M n a b Q z q1 L st') (k2 : c2 → X G M n a b Q z q2 L st') : X G M n a b Q z pc L st := by
  intro p e R s m args below meth c hC H locs ls hH h1 h2 hl hL
  exact h hC hH hL (fun hc => k1 hc p e R s m args below meth c hC H locs ls hH h1 h2 hl hL) (fun hc => k2 hc p e R s m args below meth c hC H locs ls hH h1 h2 hl hL)
theorem x_if_eq {x : Int32} {off : Int} (t q : Nat) (hd : decode M.cc pc = .ok (.ifCond .eq off, 3)) (ht : (pc : Int) + off = (t : Int)) (hq : pc + 3 = q) (kt : x = 0 → X G M n a b Q z t L st) (kf : ¬ x = 0 → X G M n a b Q z q L st) : X G M n a b Q z pc L (.int x :: st) := by
  subst hq; exact X.two (fun hC _ _ k1 k2 => lv_if_eq hC.xx hC.bb hd ht k1 k2) kt kf
theorem x_icmp_eq {x y : Int32} {off : Int} (t q : Nat) (hd : decode M.cc pc = .ok (.if_icmp .eq off, 3)) (ht : (pc : Int) + off = (t : Int)) (hq : pc + 3 = q) (kt : x = y → X G M n a b Q z t L st) (kf : ¬ x = y → X G M n a b Q z q L st) : X G M n a b Q z pc L (.int y :: .int x :: st) := by
  subst hq; exact X.two (fun hC _ _ k1 k2 => lv_icmp_eq hC.xx hC.bb hd ht k1 k2) kt kf
theorem x_if_ne {x : Int32} {off : Int} (t q : Nat) (hd : decode M.cc pc = .ok (.ifCond .ne off, 3)) (ht : (pc : Int) + off = (t : Int)) (hq : pc + 3 = q) (kt : ¬ x = 0 → X G M n a b Q z t L st) (kf : x = 0 → X G M n a b Q z q L st) : X G M n a b Q z pc L (.int x :: st) := by
  subst hq; exact X.two (fun hC _ _ k1 k2 => lv_if_ne hC.xx hC.bb hd ht k1 k2) kt kf
theorem x_icmp_ne {x y : Int32} {off : Int} (t q : Nat) (hd : decode M.cc pc = .ok (.if_icmp .ne off, 3)) (ht : (pc : Int) + off = (t : Int)) (hq : pc + 3 = q) (kt : ¬ x = y → X G M n a b Q z t L st) (kf : x = y → X G M n a b Q z q L st) : X G M n a b Q z pc L (.int y :: .int x :: st) := by
  subst hq; exact X.two (fun hC _ _ k1 k2 => lv_icmp_ne hC.xx hC.bb hd ht k1 k2) kt kf
theorem x_if_lt {x : Int32} {off : Int} (t q : Nat) (hd : decode M.cc pc = .ok (.ifCond .lt off, 3)) (ht : (pc : Int) + off = (t : Int)) (hq : pc + 3 = q) (kt : x < 0 → X G M n a b Q z t L st) (kf : ¬ x < 0 → X G M n a b Q z q L st) : X G M n a b Q z pc L (.int x :: st) := by
  subst hq; exact X.two (fun hC _ _ k1 k2 => lv_if_lt hC.xx hC.bb hd ht k1 k2) kt kf
theorem x_icmp_lt {x y : Int32} {off : Int} (t q : Nat) (hd : decode M.cc pc = .ok (.if_icmp .lt off, 3)) (ht : (pc : Int) + off = (t : Int)) (hq : pc + 3 = q) (kt : x < y → X G M n a b Q z t L st) (kf : ¬ x < y → X G M n a b Q z q L st) : X G M n a b Q z pc L (.int y :: .int x :: st) := by
  subst hq; exact X.two (fun hC _ _ k1 k2 => lv_icmp_lt hC.xx hC.bb hd ht k1 k2) kt kf
theorem x_if_ge {x : Int32} {off : Int} (t q : Nat) (hd : decode M.cc pc = .ok (.ifCond .ge off, 3)) (ht : (pc : Int) + off = (t : Int)) (hq : pc + 3 = q) (kt : 0 ≤ x → X G M n a b Q z t L st) (kf : ¬ 0 ≤ x → X G M n a b Q z q L st) : X G M n a b Q z pc L (.int x :: st) := by
  subst hq; exact X.two (fun hC _ _ k1 k2 => lv_if_ge hC.xx hC.bb hd ht k1 k2) kt kf
theorem x_icmp_ge {x y : Int32} {off : Int} (t q : Nat) (hd : decode M.cc pc = .ok (.if_icmp .ge off, 3)) (ht : (pc : Int) + off = (t : Int)) (hq : pc + 3 = q) (kt : y ≤ x → X G M n a b Q z t L st) (kf : ¬ y ≤ x → X G M n a b Q z q L st) : X G M n a b Q z pc L (.int y :: .int x :: st) := by
  subst hq; exact X.two (fun hC _ _ k1 k2 => lv_icmp_ge hC.xx hC.bb hd ht k1 k2) kt kf
theorem x_if_gt {x : Int32} {off : Int} (t q : Nat) (hd : decode M.cc pc = .ok (.ifCond .gt off, 3)) (ht : (pc : Int) + off = (t : Int)) (hq : pc + 3 = q) (kt : 0 < x → X G M n a b Q z t L st) (kf : ¬ 0 < x → X G M n a b Q z q L st) : X G M n a b Q z pc L (.int x :: st) := by
  subst hq; exact X.two (fun hC _ _ k1 k2 => lv_if_gt hC.xx hC.bb hd ht k1 k2) kt kf
theorem x_icmp_gt {x y : Int32} {off : Int} (t q : Nat) (hd : decode M.cc pc = .ok (.if_icmp .gt off, 3)) (ht : (pc : Int) + off = (t : Int)) (hq : pc + 3 = q) (kt : y < x → X G M n a b Q z t L st) (kf : ¬ y < x → X G M n a b Q z q L st) : X G M n a b Q z pc L (.int y :: .int x :: st) := by
  subst hq; exact X.two (fun hC _ _ k1 k2 => lv_icmp_gt hC.xx hC.bb hd ht k1 k2) kt kf
theorem x_if_le {x : Int32} {off : Int} (t q : Nat) (hd : decode M.cc pc = .ok (.ifCond .le off, 3)) (ht : (pc : Int) + off = (t : Int)) (hq : pc + 3 = q) (kt : x ≤ 0 → X G M n a b Q z t L st) (kf : ¬ x ≤ 0 → X G M n a b Q z q L st) : X G M n a b Q z pc L (.int x :: st) := by
  subst hq; exact X.two (fun hC _ _ k1 k2 => lv_if_le hC.xx hC.bb hd ht k1 k2) kt kf
theorem x_icmp_le {x y : Int32} {off : Int} (t q : Nat) (hd : decode M.cc pc = .ok (.if_icmp .le off, 3)) (ht : (pc : Int) + off = (t : Int)) (hq : pc + 3 = q) (kt : x ≤ y → X G M n a b Q z t L st) (kf : ¬ x ≤ y → X G M n a b Q z q L st) : X G M n a b Q z pc L (.int y :: .int x :: st) := by
  subst hq; exact X.two (fun hC _ _ k1 k2 => lv_icmp_le hC.xx hC.bb hd ht k1 k2) kt kf
theorem x_goto {off : Int} (t : Nat) (hd : decode M.cc pc = .ok (.goto off, 3)) (ht : (pc : Int) + off = (t : Int)) (kk : X G M n a b Q z t L st) : X G M n a b Q z pc L st :=
  X.one _ (fun hC _ _ k => lv_goto hC.xx hC.bb hd ht k) kk
theorem x_ifnull {f : Nat → Nat} {r : Option Nat} {off : Int} (t q : Nat) (hd : decode M.cc pc = .ok (.ifnull off, 3)) (ht : (pc : Int) + off = (t : Int)) (hq : pc + 3 = q) (kt : r = none → X G M n a b Q z t L st) (kf : ∀ j, r = some j → X G M n a b Q z q L st) : X G M n a b Q z pc L (va_re f r :: st) := by
  subst hq
  cases r with
  | none => exact X.one _ (fun hC _ _ k => lv_ifnullN hC.xx hC.bb hd ht k) (kt rfl)
  | some j => exact X.one _ (fun hC _ _ k => lv_ifnull hC.xx hC.bb hd k) (kf j rfl)
theorem x_ifnonnull {f : Nat → Nat} {r : Option Nat} {off : Int} (t q : Nat) (hd : decode M.cc pc = .ok (.ifnonnull off, 3)) (ht : (pc : Int) + off = (t : Int)) (hq : pc + 3 = q) (kt : ∀ j, r = some j → X G M n a b Q z t L st) (kf : r = none → X G M n a b Q z q L st) : X G M n a b Q z pc L (va_re f r :: st) := by
  subst hq
  cases r with
  | none => exact X.one _ (fun hC _ _ k => lv_ifnonnullN hC.xx hC.bb hd k) (kf rfl)
  | some j => exact X.one _ (fun hC _ _ k => lv_ifnonnull hC.xx hC.bb hd ht k) (kt j rfl)
end XR
