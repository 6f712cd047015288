set_option maxRecDepth 100000
/-! blocks go through the log to their places -/
def kWh (I : xI) (k : Nat) : xI := hAdd I k (I 21 0 k)
def kSm (I : xI) (s : Int64) : Nat → Int64
  | 0 => s
  | k + 1 => sumF (fun j => I 20 0 (128 * iN (I 21 0 k) + j)) (kSm I s k) 128
def kWs0 (I : xI) : Int64 := sumF (fun j => I 30 0 (0 + j)) 0 120
/-- the head of n blocks -/
def kWhd (n : Nat) (I : xI) : xI := xfil (itA kWh (kHd0 I (I 5 0 8 + 1)) n) 30 0 120 128 (hbS (kSm (itA kWh (kHd0 I (I 5 0 8 + 1)) n) (kWs0 (itA kWh (kHd0 I (I 5 0 8 + 1)) n)) n))
/-- writes, as long as the power stays -/
def kWr (f : xI → Nat → xI) (I : xI) : Nat → Bool × xI
  | 0 => (true, I)
  | k + 1 => match kWr f I k with
    | (false, I') => (false, I')
    | (true, I') => if I' 5 0 5 = 1 then (false, f I' k) else (true, f I' k)
def kWlg (D : Nat) (I : xI) (k : Nat) : xI := kDW I (1 + D + 1 + k) (I 20 0) (128 * iN (I 21 0 k))
def kWpl (I : xI) (k : Nat) : xI := kDW I (iN (I 21 0 k)) (I 20 0) (128 * iN (I 21 0 k))
def kWa2 (D n : Nat) (I : xI) : Bool × xI := match kWr kWpl I n with
  | (false, I') => (true, I')
  | (true, I') => (true, kClrH I' D)
def kWa1 (D n : Nat) (I : xI) : Bool × xI :=
  if I 5 0 5 = 1 then (false, kDW I (1 + D) (I 30 0) 0) else kWa2 D n (xu (kDW I (1 + D) (I 30 0) 0) 5 0 8 (kDW I (1 + D) (I 30 0) 0 5 0 8 + 1))
def kWall (D n : Nat) (I : xI) : Bool × xI := match kWr (kWlg D) (kWhd n I) n with
  | (false, I') => (false, I')
  | (true, I') => kWa1 D n I'
theorem kWh_c {I : xI} {n c p q : Nat} (h1 : c ≠ 1) (h30 : c ≠ 30) : itA kWh I n c p q = I c p q := itA_c (f := kWh) (fun A k p q => by unfold kWh hAdd; rw [xu_c h30, xu_c h1, xu_c h30, xu_c h30]) I n p q
theorem kHd0_c {I : xI} {s : Int32} {c i k : Nat} (h1 : c ≠ 1) (h30 : c ≠ 30) : kHd0 I s c i k = I c i k := by unfold kHd0; rw [xu_c h1, xur_c h30]
theorem kWhd_c {I : xI} {n c p q : Nat} (h1 : c ≠ 1) (h30 : c ≠ 30) : kWhd n I c p q = I c p q := by unfold kWhd; rw [xfil_c h30, kWh_c h1 h30, kHd0_c h1 h30]
theorem kWr_c {f : xI → Nat → xI} {c : Nat} (h : ∀ A k i j, f A k c i j = A c i j) (A : xI) : ∀ n i j, (kWr f A n).2 c i j = A c i j
  | 0, _, _ => rfl
  | n + 1, i, j => by
    have ih := kWr_c h A n i j
    show (match kWr f A n with | (false, I') => (false, I') | (true, I') => if I' 5 0 5 = 1 then (false, f I' n) else (true, f I' n) : Bool × xI).2 c i j = _
    split
    · next e => rw [e] at ih; exact ih
    · next e => rw [e] at ih; split <;> exact (h _ _ i j).trans ih
theorem kWlg_c {D : Nat} {I : xI} {k c p q : Nat} (h5 : c ≠ 5) (h35 : c ≠ 35) : kWlg D I k c p q = I c p q := by unfold kWlg; exact kDW_c h5 h35
theorem kWpl_c {I : xI} {k c p q : Nat} (h5 : c ≠ 5) (h35 : c ≠ 35) : kWpl I k c p q = I c p q := by unfold kWpl; exact kDW_c h5 h35
theorem kWr_p {f : xI → Nat → xI} {P : xI → Prop} (h : ∀ A k, P A → P (f A k)) {A : xI} (hA : P A) : ∀ n, P (kWr f A n).2
  | 0 => hA
  | n + 1 => by
    have ih := kWr_p h hA n
    show P (match kWr f A n with | (false, I') => (false, I') | (true, I') => if I' 5 0 5 = 1 then (false, f I' n) else (true, f I' n) : Bool × xI).2
    split
    · next e => rw [e] at ih; exact ih
    · next e => rw [e] at ih; split <;> exact h _ _ ih
/-- what the disk's work keeps -/
def kDp (I : xI) (N B D Lg : Nat) : Prop := KD I N B D Lg ∧ kBw I B
theorem kDp.dw {I : xI} {N B D Lg b t : Nat} {f : Nat → Int32} (h : kDp I N B D Lg) : kDp (kDW I b f t) N B D Lg := ⟨h.1.dw, h.2.dw⟩
theorem kDp.u {I : xI} {N B D Lg c i k : Nat} {v : Int32} (h : kDp I N B D Lg) (hc : wfD B c k = none) (h25 : ¬ (c = 6 ∧ k = 25)) (h5 : ¬ (c = 5 ∧ k < 3)) : kDp (xu I c i k v) N B D Lg := ⟨h.1.u h5, h.2.u hc h25⟩
theorem kDp.ur {I : xI} {N B D Lg c i : Nat} {v : Nat → Int32} (h : kDp I N B D Lg) (hc : ∀ k, wfD B c k = none) (h6 : ¬ c = 6) (h5 : ¬ c = 5) : kDp (xur I c i v) N B D Lg := ⟨h.1.ur h5, h.2.ur hc h6⟩
theorem kDp.hd0 {I : xI} {N B D Lg : Nat} {s : Int32} (h : kDp I N B D Lg) : kDp (kHd0 I s) N B D Lg := by unfold kHd0; exact (h.ur (fun _ => rfl) (by decide) (by decide)).u rfl (by omega) (by omega)
theorem kDp.it {f : xI → Nat → xI} {N B D Lg : Nat} (h : ∀ A k, kDp A N B D Lg → kDp (f A k) N B D Lg) {A : xI} (hA : kDp A N B D Lg) : ∀ n, kDp (itA f A n) N B D Lg
  | 0 => hA
  | n + 1 => h _ _ (kDp.it h hA n)
theorem kDp.wh {I : xI} {N B D Lg n : Nat} (h : kDp I N B D Lg) : kDp (itA kWh I n) N B D Lg := kDp.it (f := kWh) (fun A k h => by unfold kWh hAdd; exact (((h.u rfl (by omega) (by omega)).u rfl (by omega) (by omega)).u rfl (by omega) (by omega)).u rfl (by omega) (by omega)) h n
theorem kDp.whd {I : xI} {N B D Lg n : Nat} (h : kDp I N B D Lg) : kDp (kWhd n I) N B D Lg := by unfold kWhd xfil; exact h.hd0.wh.ur (fun _ => rfl) (by decide) (by decide)
theorem kDp.clrh {I : xI} {N B D Lg D' : Nat} (h : kDp I N B D Lg) : kDp (kClrH I D') N B D Lg := ⟨h.1.clrh, h.2.clrh⟩
theorem kDp.wr {f : xI → Nat → xI} {N B D Lg : Nat} (h : ∀ A k, kDp A N B D Lg → kDp (f A k) N B D Lg) {A : xI} (hA : kDp A N B D Lg) (n : Nat) : kDp (kWr f A n).2 N B D Lg := kWr_p (P := fun A => kDp A N B D Lg) h hA n
theorem kWh_n {A : xI} {k : Nat} : kWh A k 1 0 1 = nI (k + 1) := by
  unfold kWh hAdd; rw [xu_c (by decide), xu_eq]
theorem kWhn0 {I : xI} {s : Int32} : itA kWh (kHd0 I s) 0 1 0 1 = 0 := by
  show kHd0 I s 1 0 1 = 0
  unfold kHd0; rw [xu_eq]
theorem kWhn1 {I : xI} {s : Int32} (n : Nat) : itA kWh (kHd0 I s) (n + 1) 1 0 1 = nI (n + 1) := by
  rw [itA]; exact kWh_n
theorem nI_z : (0 : Int32) = nI 0 := by decide
theorem kWhn {I : xI} {s : Int32} (n : Nat) : itA kWh (kHd0 I s) n 1 0 1 = nI n := by
  rcases n with _ | n
  · rw [kWhn0]; exact nI_z
  · exact kWhn1 n
theorem dX1_writeAll_0 : decode cX1_writeAll 0 = .ok (.aload_n 0, 1) := by decide +kernel
theorem dX1_writeAll_1 : decode cX1_writeAll 1 = .ok (.getfield 19, 3) := by decide +kernel
theorem dX1_writeAll_4 : decode cX1_writeAll 4 = .ok (.aload_n 0, 1) := by decide +kernel
theorem dX1_writeAll_5 : decode cX1_writeAll 5 = .ok (.getfield 92, 3) := by decide +kernel
theorem dX1_writeAll_8 : decode cX1_writeAll 8 = .ok (.getfield 164, 3) := by decide +kernel
theorem dX1_writeAll_11 : decode cX1_writeAll 11 = .ok (.iconst 1, 1) := by decide +kernel
theorem dX1_writeAll_12 : decode cX1_writeAll 12 = .ok (.iadd, 1) := by decide +kernel
theorem dX1_writeAll_13 : decode cX1_writeAll 13 = .ok (.invokevirtual 134, 3) := by decide +kernel
theorem dX1_writeAll_16 : decode cX1_writeAll 16 = .ok (.iconst 0, 1) := by decide +kernel
theorem dX1_writeAll_17 : decode cX1_writeAll 17 = .ok (.istore_n 2, 1) := by decide +kernel
theorem dX1_writeAll_18 : decode cX1_writeAll 18 = .ok (.iload_n 2, 1) := by decide +kernel
theorem dX1_writeAll_19 : decode cX1_writeAll 19 = .ok (.iload_n 1, 1) := by decide +kernel
theorem dX1_writeAll_20 : decode cX1_writeAll 20 = .ok (.if_icmp .ge 22, 3) := by decide +kernel
theorem dX1_writeAll_23 : decode cX1_writeAll 23 = .ok (.aload_n 0, 1) := by decide +kernel
theorem dX1_writeAll_24 : decode cX1_writeAll 24 = .ok (.getfield 19, 3) := by decide +kernel
theorem dX1_writeAll_27 : decode cX1_writeAll 27 = .ok (.aload_n 0, 1) := by decide +kernel
theorem dX1_writeAll_28 : decode cX1_writeAll 28 = .ok (.getfield 102, 3) := by decide +kernel
theorem dX1_writeAll_31 : decode cX1_writeAll 31 = .ok (.iload_n 2, 1) := by decide +kernel
theorem dX1_writeAll_32 : decode cX1_writeAll 32 = .ok (.iaload, 1) := by decide +kernel
theorem dX1_writeAll_33 : decode cX1_writeAll 33 = .ok (.invokevirtual 486, 3) := by decide +kernel
theorem dX1_writeAll_36 : decode cX1_writeAll 36 = .ok (.iinc 2 1, 3) := by decide +kernel
theorem dX1_writeAll_39 : decode cX1_writeAll 39 = .ok (.goto (-21), 3) := by decide +kernel
theorem dX1_writeAll_42 : decode cX1_writeAll 42 = .ok (.aload_n 0, 1) := by decide +kernel
theorem dX1_writeAll_43 : decode cX1_writeAll 43 = .ok (.getfield 92, 3) := by decide +kernel
theorem dX1_writeAll_46 : decode cX1_writeAll 46 = .ok (.lconst 0, 1) := by decide +kernel
theorem dX1_writeAll_47 : decode cX1_writeAll 47 = .ok (.aload_n 0, 1) := by decide +kernel
theorem dX1_writeAll_48 : decode cX1_writeAll 48 = .ok (.getfield 19, 3) := by decide +kernel
theorem dX1_writeAll_51 : decode cX1_writeAll 51 = .ok (.getfield 136, 3) := by decide +kernel
theorem dX1_writeAll_54 : decode cX1_writeAll 54 = .ok (.iconst 0, 1) := by decide +kernel
theorem dX1_writeAll_55 : decode cX1_writeAll 55 = .ok (.bipush 120, 2) := by decide +kernel
theorem dX1_writeAll_57 : decode cX1_writeAll 57 = .ok (.invokevirtual 137, 3) := by decide +kernel
theorem dX1_writeAll_60 : decode cX1_writeAll 60 = .ok (.lstore_n 2, 1) := by decide +kernel
theorem dX1_writeAll_61 : decode cX1_writeAll 61 = .ok (.iconst 0, 1) := by decide +kernel
theorem dX1_writeAll_62 : decode cX1_writeAll 62 = .ok (.istore 4, 2) := by decide +kernel
theorem dX1_writeAll_64 : decode cX1_writeAll 64 = .ok (.iload 4, 2) := by decide +kernel
theorem dX1_writeAll_66 : decode cX1_writeAll 66 = .ok (.iload_n 1, 1) := by decide +kernel
theorem dX1_writeAll_67 : decode cX1_writeAll 67 = .ok (.if_icmp .ge 36, 3) := by decide +kernel
theorem dX1_writeAll_70 : decode cX1_writeAll 70 = .ok (.aload_n 0, 1) := by decide +kernel
theorem dX1_writeAll_71 : decode cX1_writeAll 71 = .ok (.getfield 92, 3) := by decide +kernel
theorem dX1_writeAll_74 : decode cX1_writeAll 74 = .ok (.lload_n 2, 1) := by decide +kernel
theorem dX1_writeAll_75 : decode cX1_writeAll 75 = .ok (.aload_n 0, 1) := by decide +kernel
theorem dX1_writeAll_76 : decode cX1_writeAll 76 = .ok (.getfield 99, 3) := by decide +kernel
theorem dX1_writeAll_79 : decode cX1_writeAll 79 = .ok (.sipush 128, 3) := by decide +kernel
theorem dX1_writeAll_82 : decode cX1_writeAll 82 = .ok (.aload_n 0, 1) := by decide +kernel
theorem dX1_writeAll_83 : decode cX1_writeAll 83 = .ok (.getfield 102, 3) := by decide +kernel
theorem dX1_writeAll_86 : decode cX1_writeAll 86 = .ok (.iload 4, 2) := by decide +kernel
theorem dX1_writeAll_88 : decode cX1_writeAll 88 = .ok (.iaload, 1) := by decide +kernel
theorem dX1_writeAll_89 : decode cX1_writeAll 89 = .ok (.imul, 1) := by decide +kernel
theorem dX1_writeAll_90 : decode cX1_writeAll 90 = .ok (.sipush 128, 3) := by decide +kernel
theorem dX1_writeAll_93 : decode cX1_writeAll 93 = .ok (.invokevirtual 137, 3) := by decide +kernel
theorem dX1_writeAll_96 : decode cX1_writeAll 96 = .ok (.lstore_n 2, 1) := by decide +kernel
theorem dX1_writeAll_97 : decode cX1_writeAll 97 = .ok (.iinc 4 1, 3) := by decide +kernel
theorem dX1_writeAll_100 : decode cX1_writeAll 100 = .ok (.goto (-36), 3) := by decide +kernel
theorem dX1_writeAll_103 : decode cX1_writeAll 103 = .ok (.aload_n 0, 1) := by decide +kernel
theorem dX1_writeAll_104 : decode cX1_writeAll 104 = .ok (.getfield 19, 3) := by decide +kernel
theorem dX1_writeAll_107 : decode cX1_writeAll 107 = .ok (.lload_n 2, 1) := by decide +kernel
theorem dX1_writeAll_108 : decode cX1_writeAll 108 = .ok (.invokevirtual 141, 3) := by decide +kernel
theorem dX1_writeAll_111 : decode cX1_writeAll 111 = .ok (.iconst 0, 1) := by decide +kernel
theorem dX1_writeAll_112 : decode cX1_writeAll 112 = .ok (.istore 4, 2) := by decide +kernel
theorem dX1_writeAll_114 : decode cX1_writeAll 114 = .ok (.iload 4, 2) := by decide +kernel
theorem dX1_writeAll_116 : decode cX1_writeAll 116 = .ok (.iload_n 1, 1) := by decide +kernel
theorem dX1_writeAll_117 : decode cX1_writeAll 117 = .ok (.if_icmp .ge 48, 3) := by decide +kernel
theorem dX1_writeAll_120 : decode cX1_writeAll 120 = .ok (.aload_n 0, 1) := by decide +kernel
theorem dX1_writeAll_121 : decode cX1_writeAll 121 = .ok (.getfield 92, 3) := by decide +kernel
theorem dX1_writeAll_124 : decode cX1_writeAll 124 = .ok (.aload_n 0, 1) := by decide +kernel
theorem dX1_writeAll_125 : decode cX1_writeAll 125 = .ok (.getfield 92, 3) := by decide +kernel
theorem dX1_writeAll_128 : decode cX1_writeAll 128 = .ok (.invokevirtual 145, 3) := by decide +kernel
theorem dX1_writeAll_131 : decode cX1_writeAll 131 = .ok (.iconst 1, 1) := by decide +kernel
theorem dX1_writeAll_132 : decode cX1_writeAll 132 = .ok (.iadd, 1) := by decide +kernel
theorem dX1_writeAll_133 : decode cX1_writeAll 133 = .ok (.iload 4, 2) := by decide +kernel
theorem dX1_writeAll_135 : decode cX1_writeAll 135 = .ok (.iadd, 1) := by decide +kernel
theorem dX1_writeAll_136 : decode cX1_writeAll 136 = .ok (.aload_n 0, 1) := by decide +kernel
theorem dX1_writeAll_137 : decode cX1_writeAll 137 = .ok (.getfield 99, 3) := by decide +kernel
theorem dX1_writeAll_140 : decode cX1_writeAll 140 = .ok (.sipush 128, 3) := by decide +kernel
theorem dX1_writeAll_143 : decode cX1_writeAll 143 = .ok (.aload_n 0, 1) := by decide +kernel
theorem dX1_writeAll_144 : decode cX1_writeAll 144 = .ok (.getfield 102, 3) := by decide +kernel
theorem dX1_writeAll_147 : decode cX1_writeAll 147 = .ok (.iload 4, 2) := by decide +kernel
theorem dX1_writeAll_149 : decode cX1_writeAll 149 = .ok (.iaload, 1) := by decide +kernel
theorem dX1_writeAll_150 : decode cX1_writeAll 150 = .ok (.imul, 1) := by decide +kernel
theorem dX1_writeAll_151 : decode cX1_writeAll 151 = .ok (.invokevirtual 489, 3) := by decide +kernel
theorem dX1_writeAll_154 : decode cX1_writeAll 154 = .ok (.ifCond .ne 5, 3) := by decide +kernel
theorem dX1_writeAll_157 : decode cX1_writeAll 157 = .ok (.iconst 0, 1) := by decide +kernel
theorem dX1_writeAll_158 : decode cX1_writeAll 158 = .ok (.ireturn, 1) := by decide +kernel
theorem dX1_writeAll_159 : decode cX1_writeAll 159 = .ok (.iinc 4 1, 3) := by decide +kernel
theorem dX1_writeAll_162 : decode cX1_writeAll 162 = .ok (.goto (-48), 3) := by decide +kernel
theorem dX1_writeAll_165 : decode cX1_writeAll 165 = .ok (.aload_n 0, 1) := by decide +kernel
theorem dX1_writeAll_166 : decode cX1_writeAll 166 = .ok (.getfield 92, 3) := by decide +kernel
theorem dX1_writeAll_169 : decode cX1_writeAll 169 = .ok (.aload_n 0, 1) := by decide +kernel
theorem dX1_writeAll_170 : decode cX1_writeAll 170 = .ok (.getfield 92, 3) := by decide +kernel
theorem dX1_writeAll_173 : decode cX1_writeAll 173 = .ok (.invokevirtual 145, 3) := by decide +kernel
theorem dX1_writeAll_176 : decode cX1_writeAll 176 = .ok (.aload_n 0, 1) := by decide +kernel
theorem dX1_writeAll_177 : decode cX1_writeAll 177 = .ok (.getfield 19, 3) := by decide +kernel
theorem dX1_writeAll_180 : decode cX1_writeAll 180 = .ok (.getfield 136, 3) := by decide +kernel
theorem dX1_writeAll_183 : decode cX1_writeAll 183 = .ok (.iconst 0, 1) := by decide +kernel
theorem dX1_writeAll_184 : decode cX1_writeAll 184 = .ok (.invokevirtual 489, 3) := by decide +kernel
theorem dX1_writeAll_187 : decode cX1_writeAll 187 = .ok (.ifCond .ne 5, 3) := by decide +kernel
theorem dX1_writeAll_190 : decode cX1_writeAll 190 = .ok (.iconst 0, 1) := by decide +kernel
theorem dX1_writeAll_191 : decode cX1_writeAll 191 = .ok (.ireturn, 1) := by decide +kernel
theorem dX1_writeAll_192 : decode cX1_writeAll 192 = .ok (.aload_n 0, 1) := by decide +kernel
theorem dX1_writeAll_193 : decode cX1_writeAll 193 = .ok (.getfield 92, 3) := by decide +kernel
theorem dX1_writeAll_196 : decode cX1_writeAll 196 = .ok (.dup, 1) := by decide +kernel
theorem dX1_writeAll_197 : decode cX1_writeAll 197 = .ok (.getfield 164, 3) := by decide +kernel
theorem dX1_writeAll_200 : decode cX1_writeAll 200 = .ok (.iconst 1, 1) := by decide +kernel
theorem dX1_writeAll_201 : decode cX1_writeAll 201 = .ok (.iadd, 1) := by decide +kernel
theorem dX1_writeAll_202 : decode cX1_writeAll 202 = .ok (.putfield 164, 3) := by decide +kernel
theorem dX1_writeAll_205 : decode cX1_writeAll 205 = .ok (.iconst 0, 1) := by decide +kernel
theorem dX1_writeAll_206 : decode cX1_writeAll 206 = .ok (.istore 4, 2) := by decide +kernel
theorem dX1_writeAll_208 : decode cX1_writeAll 208 = .ok (.iload 4, 2) := by decide +kernel
theorem dX1_writeAll_210 : decode cX1_writeAll 210 = .ok (.iload_n 1, 1) := by decide +kernel
theorem dX1_writeAll_211 : decode cX1_writeAll 211 = .ok (.if_icmp .ge 43, 3) := by decide +kernel
theorem dX1_writeAll_214 : decode cX1_writeAll 214 = .ok (.aload_n 0, 1) := by decide +kernel
theorem dX1_writeAll_215 : decode cX1_writeAll 215 = .ok (.getfield 92, 3) := by decide +kernel
theorem dX1_writeAll_218 : decode cX1_writeAll 218 = .ok (.aload_n 0, 1) := by decide +kernel
theorem dX1_writeAll_219 : decode cX1_writeAll 219 = .ok (.getfield 102, 3) := by decide +kernel
theorem dX1_writeAll_222 : decode cX1_writeAll 222 = .ok (.iload 4, 2) := by decide +kernel
theorem dX1_writeAll_224 : decode cX1_writeAll 224 = .ok (.iaload, 1) := by decide +kernel
theorem dX1_writeAll_225 : decode cX1_writeAll 225 = .ok (.aload_n 0, 1) := by decide +kernel
theorem dX1_writeAll_226 : decode cX1_writeAll 226 = .ok (.getfield 99, 3) := by decide +kernel
theorem dX1_writeAll_229 : decode cX1_writeAll 229 = .ok (.sipush 128, 3) := by decide +kernel
theorem dX1_writeAll_232 : decode cX1_writeAll 232 = .ok (.aload_n 0, 1) := by decide +kernel
theorem dX1_writeAll_233 : decode cX1_writeAll 233 = .ok (.getfield 102, 3) := by decide +kernel
theorem dX1_writeAll_236 : decode cX1_writeAll 236 = .ok (.iload 4, 2) := by decide +kernel
theorem dX1_writeAll_238 : decode cX1_writeAll 238 = .ok (.iaload, 1) := by decide +kernel
theorem dX1_writeAll_239 : decode cX1_writeAll 239 = .ok (.imul, 1) := by decide +kernel
theorem dX1_writeAll_240 : decode cX1_writeAll 240 = .ok (.invokevirtual 489, 3) := by decide +kernel
theorem dX1_writeAll_243 : decode cX1_writeAll 243 = .ok (.ifCond .ne 5, 3) := by decide +kernel
theorem dX1_writeAll_246 : decode cX1_writeAll 246 = .ok (.iconst 1, 1) := by decide +kernel
theorem dX1_writeAll_247 : decode cX1_writeAll 247 = .ok (.ireturn, 1) := by decide +kernel
theorem dX1_writeAll_248 : decode cX1_writeAll 248 = .ok (.iinc 4 1, 3) := by decide +kernel
theorem dX1_writeAll_251 : decode cX1_writeAll 251 = .ok (.goto (-43), 3) := by decide +kernel
theorem dX1_writeAll_254 : decode cX1_writeAll 254 = .ok (.aload_n 0, 1) := by decide +kernel
theorem dX1_writeAll_255 : decode cX1_writeAll 255 = .ok (.invokevirtual 493, 3) := by decide +kernel
theorem dX1_writeAll_258 : decode cX1_writeAll 258 = .ok (.pop, 1) := by decide +kernel
theorem dX1_writeAll_259 : decode cX1_writeAll 259 = .ok (.iconst 1, 1) := by decide +kernel
theorem dX1_writeAll_260 : decode cX1_writeAll 260 = .ok (.ireturn, 1) := by decide +kernel
set_option maxHeartbeats 4000000 in
set_option maxRecDepth 100000 in
theorem l18_wa {G : xG} {n a b : Nat} {Q : Outcome → xS → Prop} {J : xJ} {Z : xR} {T : xT} {R : xR} {I0 : xI} {N B : Nat} (hk : KS Z T N B) {m : Nat} (hm5 : m ≤ 49 ∧ m ≤ B) (hnn : ∀ k, itA kWh I0 k 1 0 1 = nI k) (hx : X G mX1_writeAll n a b Q (itA kWh I0 m, J, R, Z, T) 42 [(1, .ref (T.ad 0 0)), (1, .int (nI m)), xo, xo, xo] []) (k : Nat) (I : xI) (hn : 2 ≤ n) :
    (k ≤ m) → (I = itA kWh I0 k) → X G mX1_writeAll n a b Q (I, J, R, Z, T) 18 [(1, .ref (T.ad 0 0)), (1, .int (nI m)), (1, .int (nI k)), xo, xo] [] := by
  induction hm : m - k using Nat.strongRecOn generalizing k I with
  | _ m_ ih =>
    intro h8 hI
    have hnb := hk.nb
    refine x_iload_n 19 dX1_writeAll_18 rfl rfl ?_
    refine x_iload_n 20 dX1_writeAll_19 rfl rfl ?_
    refine x_icmp_ge 42 23 dX1_writeAll_20 (by decide) rfl (fun c20 => ?_) (fun c20 => ?_)
    · skip
      have c20 : m ≤ k := (nI_leI (a := m) (b := k) (by omega) (by omega)).mp c20
      refine x_fgt [(1, .ref (T.ad 0 0)), (1, .int (nI m)), xo, xo, xo] ⟨Or.inr rfl, Or.inr rfl, Or.inl rfl, Or.inl rfl, Or.inl rfl, trivial⟩ ?_
      have e : k = m := by omega
      rw [hI, e]; exact hx
    · skip
      have c20 : ¬ (m ≤ k) := fun h => c20 ((nI_leI (a := m) (b := k) (by omega) (by omega)).mpr h)
      refine x_aload_n 24 dX1_writeAll_23 rfl rfl ?_
      refine x_getz 27 dX1_writeAll_24 rfl fl_X1_19 (hk.l0 (by omega)) (hk.z0_1 (by omega)) ?_
      refine x_aload_n 28 dX1_writeAll_27 rfl rfl ?_
      refine x_getz 31 dX1_writeAll_28 rfl fl_X1_102 (hk.l0 (by omega)) (hk.z0_3 (by omega)) ?_
      refine x_iload_n 32 dX1_writeAll_31 rfl rfl ?_
      refine x_iald 33 dX1_writeAll_32 rfl ar_21 (hk.l21 (by omega)) (xb (hk.n21 (by omega)) (by omega) (by omega)) ?_
      refine x_callV (as := [.int (I 21 0 k)]) (rest := []) (i := 0) (n' := n - 1) 36 dX1_writeAll_33 rfl mv_X1_486 rfl rfl (hk.l1 (by omega)) (xnh rfl) (by omega) (xst (Nat.le_of_ble_eq_true rfl)) (c_X2_add hk (by rw [hI]; exact hnn k) (by omega) (by omega) ?_)
      change X _ _ _ _ _ _ _ _ _ _
      refine x_iinc 39 [(1, .ref (T.ad 0 0)), (1, .int (nI m)), (1, .int (nI (k + 1))), xo, xo] dX1_writeAll_36 rfl (by decide) rfl (xi_1 k) rfl ?_
      refine x_goto 18 dX1_writeAll_39 (by decide) ?_
      exact ih _ (by rw [← hm]; omega) (k + 1) ((hAdd I k (I 21 0 k))) rfl (by omega) (by rw [hI]; rfl)
set_option maxHeartbeats 4000000 in
set_option maxRecDepth 100000 in
theorem l64_wa {G : xG} {n a b : Nat} {Q : Outcome → xS → Prop} {J : xJ} {Z : xR} {T : xT} {R : xR} {I : xI} {N B : Nat} (hk : KS Z T N B) (hw : kBw I B) {m : Nat} (hm5 : m ≤ 49 ∧ m ≤ B) {s : Int64} (hx : X G mX1_writeAll n a b Q (I, J, R, Z, T) 103 [(1, .ref (T.ad 0 0)), (1, .int (nI m)), (2, .long (kSm I s m)), xo, xo] []) (k : Nat) (x : Int64) (hn : 3 ≤ n) :
    (k ≤ m) → (x = kSm I s k) → X G mX1_writeAll n a b Q (I, J, R, Z, T) 64 [(1, .ref (T.ad 0 0)), (1, .int (nI m)), (2, .long x), xo, (1, .int (nI k))] [] := by
  induction hm : m - k using Nat.strongRecOn generalizing k x with
  | _ m_ ih =>
    intro h8 hxs
    have hnb := hk.nb
    have hch := hw.chg 0 k
    have hch2 := hch.2
    refine x_iload 66 dX1_writeAll_64 rfl rfl ?_
    refine x_iload_n 67 dX1_writeAll_66 rfl rfl ?_
    refine x_icmp_ge 103 70 dX1_writeAll_67 (by decide) rfl (fun c67 => ?_) (fun c67 => ?_)
    · skip
      have c67 : m ≤ k := (nI_leI (a := m) (b := k) (by omega) (by omega)).mp c67
      refine x_fgt [(1, .ref (T.ad 0 0)), (1, .int (nI m)), (2, .long x), xo, xo] ⟨Or.inr rfl, Or.inr rfl, Or.inr rfl, Or.inl rfl, Or.inl rfl, trivial⟩ ?_
      have e : k = m := by omega
      rw [hxs, e]; exact hx
    · skip
      have c67 : ¬ (m ≤ k) := fun h => c67 ((nI_leI (a := m) (b := k) (by omega) (by omega)).mpr h)
      refine x_aload_n 71 dX1_writeAll_70 rfl rfl ?_
      refine x_getz 74 dX1_writeAll_71 rfl fl_X1_92 (hk.l0 (by omega)) (hk.z0_0 (by omega)) ?_
      refine x_lload_n 75 dX1_writeAll_74 rfl rfl ?_
      refine x_aload_n 76 dX1_writeAll_75 rfl rfl ?_
      refine x_getz 79 dX1_writeAll_76 rfl fl_X1_99 (hk.l0 (by omega)) (hk.z0_2 (by omega)) ?_
      refine x_sipush (v := 128) 82 dX1_writeAll_79 rfl rfl ?_
      refine x_aload_n 83 dX1_writeAll_82 rfl rfl ?_
      refine x_getz 86 dX1_writeAll_83 rfl fl_X1_102 (hk.l0 (by omega)) (hk.z0_3 (by omega)) ?_
      refine x_iload 88 dX1_writeAll_86 rfl rfl ?_
      refine x_iald 89 dX1_writeAll_88 rfl ar_21 (hk.l21 (by omega)) (xb (hk.n21 (by omega)) (by omega) (by omega)) ?_
      refine x_vi (w := nI (iN (I 21 0 k))) hch.1 ?_
      refine x_imuln 128 (iN (I 21 0 k)) 90 dX1_writeAll_89 rfl rfl rfl ?_
      refine x_sipush (v := 128) 93 dX1_writeAll_90 rfl rfl ?_
      refine x_callV (as := [.long x, .ref (T.ad 20 0), .int (nI (128 * (iN (I 21 0 k)))), .int (nI 128)]) (rest := []) (i := 0) (n' := n - 1) 96 dX1_writeAll_93 rfl mv_X1_137 rfl rfl (hk.l5 (by omega)) (xnh rfl) (by omega) (xst (Nat.le_of_ble_eq_true rfl)) (c_X6_sum hk ar_20 (hk.l20 (by omega)) ⟨(by rw [(hk.n20 (by omega))]; omega), by omega⟩ (by omega) ?_)
      change X _ _ _ _ _ _ _ _ _ _
      refine x_nml fun x1 hx1 => ?_
      refine x_lstore_n 97 [(1, .ref (T.ad 0 0)), (1, .int (nI m)), (2, .long x1), xo, (1, .int (nI k))] dX1_writeAll_96 rfl (by decide) rfl ?_
      refine x_iinc 100 [(1, .ref (T.ad 0 0)), (1, .int (nI m)), (2, .long x1), xo, (1, .int (nI (k + 1)))] dX1_writeAll_97 rfl (by decide) rfl (xi_1 k) rfl ?_
      refine x_goto 64 dX1_writeAll_100 (by decide) ?_
      exact ih _ (by rw [← hm]; omega) (k + 1) x1 rfl (by omega) (by rw [hx1, hxs]; rfl)
theorem kWr_stop {f : xI → Nat → xI} {I0 I' : xI} {k m : Nat} (h : kWr f I0 (k + 1) = (false, I')) (hm : k + 1 ≤ m) : kWr f I0 m = (false, I') := by
  obtain ⟨j, rfl⟩ : ∃ j, m = k + 1 + j := ⟨m - (k + 1), by omega⟩
  clear hm
  induction j with
  | zero => exact h
  | succ j ih =>
    show (match kWr f I0 (k + 1 + j) with | (false, I') => (false, I') | (true, I') => if I' 5 0 5 = 1 then (false, f I' (k + 1 + j)) else (true, f I' (k + 1 + j)) : Bool × xI) = _
    rw [ih]
set_option maxHeartbeats 4000000 in
set_option maxRecDepth 100000 in
theorem l114_wa {G : xG} {n a b : Nat} {Q : Outcome → xS → Prop} {J : xJ} {Z : xR} {T : xT} {R : xR} {I0 : xI} {N B D Lg : Nat} (hk : KS Z T N B) {m : Nat} (hm5 : m ≤ Lg - 1) (hx : ∀ I' : xI, kWr (kWlg D) I0 m = (true, I') → kDp I' N B D Lg → X G mX1_writeAll n a b Q (I', J, R, Z, T) 165 [(1, .ref (T.ad 0 0)), (1, .int (nI m)), xo, xo, xo] []) (hq : ∀ I' : xI, kWr (kWlg D) I0 m = (false, I') → Q (.returned (some (.int 0))) (I', J, R, Z, T)) (k : Nat) (I : xI) (hn : 2 ≤ n) :
    (k ≤ m) → (kWr (kWlg D) I0 k = (true, I)) → (kDp I N B D Lg) → X G mX1_writeAll n a b Q (I, J, R, Z, T) 114 [(1, .ref (T.ad 0 0)), (1, .int (nI m)), xo, xo, (1, .int (nI k))] [] := by
  induction hm : m - k using Nat.strongRecOn generalizing k I with
  | _ m_ ih =>
    intro h8 hI hDp
    have hdn := hDp.1.n
    have hch := hDp.2.chg 0 k
    have hch2 := hch.2
    refine x_iload 116 dX1_writeAll_114 rfl rfl ?_
    refine x_iload_n 117 dX1_writeAll_116 rfl rfl ?_
    refine x_icmp_ge 165 120 dX1_writeAll_117 (by decide) rfl (fun c117 => ?_) (fun c117 => ?_)
    · skip
      have c117 : m ≤ k := (nI_leI (a := m) (b := k) (by omega) (by omega)).mp c117
      refine x_fgt [(1, .ref (T.ad 0 0)), (1, .int (nI m)), xo, xo, xo] ⟨Or.inr rfl, Or.inr rfl, Or.inl rfl, Or.inl rfl, Or.inl rfl, trivial⟩ ?_
      have e : k = m := by omega
      rw [e] at hI
      exact hx I hI hDp
    · skip
      have c117 : ¬ (m ≤ k) := fun h => c117 ((nI_leI (a := m) (b := k) (by omega) (by omega)).mpr h)
      refine x_aload_n 121 dX1_writeAll_120 rfl rfl ?_
      refine x_getz 124 dX1_writeAll_121 rfl fl_X1_92 (hk.l0 (by omega)) (hk.z0_0 (by omega)) ?_
      refine x_aload_n 125 dX1_writeAll_124 rfl rfl ?_
      refine x_getz 128 dX1_writeAll_125 rfl fl_X1_92 (hk.l0 (by omega)) (hk.z0_0 (by omega)) ?_
      refine x_callV (as := []) (rest := [.ref (T.ad 5 0)]) (i := 0) (n' := n - 1) 131 dX1_writeAll_128 rfl mv_X1_145 rfl rfl (hk.l5 (by omega)) (xnh rfl) (by omega) (xst (Nat.le_of_ble_eq_true rfl)) (c_X6_head hk hDp.1 (by omega) ?_)
      change X _ _ _ _ _ _ _ _ _ _
      refine x_iconst (v := 1) 132 dX1_writeAll_131 rfl rfl ?_
      refine x_iaddn (1 + D) 1 133 dX1_writeAll_132 rfl rfl rfl ?_
      refine x_iload 135 dX1_writeAll_133 rfl rfl ?_
      refine x_iaddn ((1 + D) + 1) k 136 dX1_writeAll_135 rfl rfl rfl ?_
      refine x_aload_n 137 dX1_writeAll_136 rfl rfl ?_
      refine x_getz 140 dX1_writeAll_137 rfl fl_X1_99 (hk.l0 (by omega)) (hk.z0_2 (by omega)) ?_
      refine x_sipush (v := 128) 143 dX1_writeAll_140 rfl rfl ?_
      refine x_aload_n 144 dX1_writeAll_143 rfl rfl ?_
      refine x_getz 147 dX1_writeAll_144 rfl fl_X1_102 (hk.l0 (by omega)) (hk.z0_3 (by omega)) ?_
      refine x_iload 149 dX1_writeAll_147 rfl rfl ?_
      refine x_iald 150 dX1_writeAll_149 rfl ar_21 (hk.l21 (by omega)) (xb (hk.n21 (by omega)) (by omega) (by omega)) ?_
      refine x_vi (w := nI (iN (I 21 0 k))) hch.1 ?_
      refine x_imuln 128 (iN (I 21 0 k)) 151 dX1_writeAll_150 rfl rfl rfl ?_
      refine x_callV (as := [.int (nI (((1 + D) + 1) + k)), .ref (T.ad 20 0), .int (nI (128 * (iN (I 21 0 k))))]) (rest := []) (i := 0) (n' := n - 1) 154 dX1_writeAll_151 rfl mv_X1_489 rfl rfl (hk.l5 (by omega)) (xnh rfl) (by omega) (xst (Nat.le_of_ble_eq_true rfl)) (c_X6_write (I := I) hk hDp.2 (by omega) ar_20 (hk.l20 (by omega)) (by decide) (by decide) ⟨by rw [hk.n20 (by omega)]; omega, by omega⟩ (by omega) ?_)
      change X _ _ _ _ _ _ _ _ _ _
      refine x_if_ne 159 157 dX1_writeAll_154 (by decide) rfl (fun c154 => ?_) (fun c154 => ?_)
      · skip
        have c154 : ¬ I 5 0 5 = 1 := b2i_n0.mp c154
        refine x_iinc 162 [(1, .ref (T.ad 0 0)), (1, .int (nI m)), xo, xo, (1, .int (nI (k + 1)))] dX1_writeAll_159 rfl (by decide) rfl (xi_1 k) rfl ?_
        refine x_goto 114 dX1_writeAll_162 (by decide) ?_
        exact ih _ (by rw [← hm]; omega) (k + 1) ((kDW I (((1 + D) + 1) + k) (I 20 0) (128 * (iN (I 21 0 k))))) rfl (by omega) (by show (match kWr (kWlg D) I0 k with | (false, I') => (false, I') | (true, I') => if I' 5 0 5 = 1 then (false, (kWlg D) I' k) else (true, (kWlg D) I' k) : Bool × xI) = _; rw [hI]; dsimp only; rw [if_neg c154]; rfl) (hDp.dw)
      · skip
        have c154 : ¬ (¬ I 5 0 5 = 1) := b2i_0.mp c154
        refine x_iconst (v := 0) 158 dX1_writeAll_157 rfl rfl ?_
        refine x_zreturn dX1_writeAll_158 rfl (Or.inl rfl) ?_
        exact hq _ (kWr_stop (by show (match kWr (kWlg D) I0 k with | (false, I') => (false, I') | (true, I') => if I' 5 0 5 = 1 then (false, (kWlg D) I' k) else (true, (kWlg D) I' k) : Bool × xI) = _; rw [hI]; dsimp only; rw [if_pos (Classical.not_not.mp c154)]; rfl) (by omega))
set_option maxHeartbeats 4000000 in
set_option maxRecDepth 100000 in
theorem l208_wa {G : xG} {n a b : Nat} {Q : Outcome → xS → Prop} {J : xJ} {Z : xR} {T : xT} {R : xR} {I0 : xI} {N B D Lg : Nat} (hk : KS Z T N B) {m : Nat} (hm5 : m ≤ Lg - 1) (hx : ∀ I' : xI, kWr kWpl I0 m = (true, I') → kDp I' N B D Lg → X G mX1_writeAll n a b Q (I', J, R, Z, T) 254 [(1, .ref (T.ad 0 0)), (1, .int (nI m)), xo, xo, xo] []) (hq : ∀ I' : xI, kWr kWpl I0 m = (false, I') → Q (.returned (some (.int 1))) (I', J, R, Z, T)) (k : Nat) (I : xI) (hn : 2 ≤ n) :
    (k ≤ m) → (kWr kWpl I0 k = (true, I)) → (kDp I N B D Lg) → X G mX1_writeAll n a b Q (I, J, R, Z, T) 208 [(1, .ref (T.ad 0 0)), (1, .int (nI m)), xo, xo, (1, .int (nI k))] [] := by
  induction hm : m - k using Nat.strongRecOn generalizing k I with
  | _ m_ ih =>
    intro h8 hI hDp
    have hdn := hDp.1.n
    have hch := hDp.2.chg 0 k
    have hch2 := hch.2
    refine x_iload 210 dX1_writeAll_208 rfl rfl ?_
    refine x_iload_n 211 dX1_writeAll_210 rfl rfl ?_
    refine x_icmp_ge 254 214 dX1_writeAll_211 (by decide) rfl (fun c211 => ?_) (fun c211 => ?_)
    · skip
      have c211 : m ≤ k := (nI_leI (a := m) (b := k) (by omega) (by omega)).mp c211
      refine x_fgt [(1, .ref (T.ad 0 0)), (1, .int (nI m)), xo, xo, xo] ⟨Or.inr rfl, Or.inr rfl, Or.inl rfl, Or.inl rfl, Or.inl rfl, trivial⟩ ?_
      have e : k = m := by omega
      rw [e] at hI
      exact hx I hI hDp
    · skip
      have c211 : ¬ (m ≤ k) := fun h => c211 ((nI_leI (a := m) (b := k) (by omega) (by omega)).mpr h)
      refine x_aload_n 215 dX1_writeAll_214 rfl rfl ?_
      refine x_getz 218 dX1_writeAll_215 rfl fl_X1_92 (hk.l0 (by omega)) (hk.z0_0 (by omega)) ?_
      refine x_aload_n 219 dX1_writeAll_218 rfl rfl ?_
      refine x_getz 222 dX1_writeAll_219 rfl fl_X1_102 (hk.l0 (by omega)) (hk.z0_3 (by omega)) ?_
      refine x_iload 224 dX1_writeAll_222 rfl rfl ?_
      refine x_iald 225 dX1_writeAll_224 rfl ar_21 (hk.l21 (by omega)) (xb (hk.n21 (by omega)) (by omega) (by omega)) ?_
      refine x_vi (w := nI (iN (I 21 0 k))) hch.1 ?_
      refine x_aload_n 226 dX1_writeAll_225 rfl rfl ?_
      refine x_getz 229 dX1_writeAll_226 rfl fl_X1_99 (hk.l0 (by omega)) (hk.z0_2 (by omega)) ?_
      refine x_sipush (v := 128) 232 dX1_writeAll_229 rfl rfl ?_
      refine x_aload_n 233 dX1_writeAll_232 rfl rfl ?_
      refine x_getz 236 dX1_writeAll_233 rfl fl_X1_102 (hk.l0 (by omega)) (hk.z0_3 (by omega)) ?_
      refine x_iload 238 dX1_writeAll_236 rfl rfl ?_
      refine x_iald 239 dX1_writeAll_238 rfl ar_21 (hk.l21 (by omega)) (xb (hk.n21 (by omega)) (by omega) (by omega)) ?_
      refine x_vi (w := nI (iN (I 21 0 k))) hch.1 ?_
      refine x_imuln 128 (iN (I 21 0 k)) 240 dX1_writeAll_239 rfl rfl rfl ?_
      refine x_callV (as := [.int (nI (iN (I 21 0 k))), .ref (T.ad 20 0), .int (nI (128 * (iN (I 21 0 k))))]) (rest := []) (i := 0) (n' := n - 1) 243 dX1_writeAll_240 rfl mv_X1_489 rfl rfl (hk.l5 (by omega)) (xnh rfl) (by omega) (xst (Nat.le_of_ble_eq_true rfl)) (c_X6_write (I := I) hk hDp.2 (by omega) ar_20 (hk.l20 (by omega)) (by decide) (by decide) ⟨by rw [hk.n20 (by omega)]; omega, by omega⟩ (by omega) ?_)
      change X _ _ _ _ _ _ _ _ _ _
      refine x_if_ne 248 246 dX1_writeAll_243 (by decide) rfl (fun c243 => ?_) (fun c243 => ?_)
      · skip
        have c243 : ¬ I 5 0 5 = 1 := b2i_n0.mp c243
        refine x_iinc 251 [(1, .ref (T.ad 0 0)), (1, .int (nI m)), xo, xo, (1, .int (nI (k + 1)))] dX1_writeAll_248 rfl (by decide) rfl (xi_1 k) rfl ?_
        refine x_goto 208 dX1_writeAll_251 (by decide) ?_
        exact ih _ (by rw [← hm]; omega) (k + 1) ((kDW I (iN (I 21 0 k)) (I 20 0) (128 * (iN (I 21 0 k))))) rfl (by omega) (by show (match kWr kWpl I0 k with | (false, I') => (false, I') | (true, I') => if I' 5 0 5 = 1 then (false, kWpl I' k) else (true, kWpl I' k) : Bool × xI) = _; rw [hI]; dsimp only; rw [if_neg c243]; rfl) (hDp.dw)
      · skip
        have c243 : ¬ (¬ I 5 0 5 = 1) := b2i_0.mp c243
        refine x_iconst (v := 1) 247 dX1_writeAll_246 rfl rfl ?_
        refine x_zreturn dX1_writeAll_247 rfl (Or.inr rfl) ?_
        exact hq _ (kWr_stop (by show (match kWr kWpl I0 k with | (false, I') => (false, I') | (true, I') => if I' 5 0 5 = 1 then (false, kWpl I' k) else (true, kWpl I' k) : Bool × xI) = _; rw [hI]; dsimp only; rw [if_pos (Classical.not_not.mp c243)]; rfl) (by omega))
set_option maxHeartbeats 4000000 in
set_option maxRecDepth 100000 in
theorem s205_wa {G : xG} {n a b : Nat} {Q : Outcome → xS → Prop} {J : xJ} {R Z : xR} {T : xT} {I : xI} {N B D Lg : Nat} (hk : KS Z T N B) {m : Nat} (hm5 : m ≤ Lg - 1) (hD : kDp I N B D Lg) (hq : Q (.returned (some (.int 1))) ((kWa2 D m I).2, J, R, Z, T)) (hn : 4 ≤ n) : X G mX1_writeAll n a b Q (I, J, R, Z, T) 208 [(1, .ref (T.ad 0 0)), (1, .int (nI m)), xo, xo, (1, .int (nI 0))] [] := by
  refine l208_wa hk hm5 ?_ ?_ 0 I (by omega) (by omega) rfl hD
  · intro I2 hK2 hD2
    refine x_aload_n 255 dX1_writeAll_254 rfl rfl ?_
    refine x_callV (as := []) (rest := []) (i := 0) (n' := n - 1) 258 dX1_writeAll_255 rfl mv_X1_493 rfl rfl (hk.l0 (by omega)) (xnh rfl) (by omega) (xst (Nat.le_of_ble_eq_true rfl)) (c_X1_clearHead (I := I2) hk hD2.1 hD2.2 (by omega) ?_)
    change X _ _ _ _ _ _ _ _ _ _
    refine x_pop 259 dX1_writeAll_258 rfl rfl ?_
    refine x_iconst (v := 1) 260 dX1_writeAll_259 rfl rfl ?_
    refine x_zreturn dX1_writeAll_260 rfl (Or.inr rfl) ?_
    unfold kWa2 at hq; rw [hK2] at hq; exact hq
  · intro I2 hK2
    unfold kWa2 at hq; rw [hK2] at hq; exact hq
set_option maxHeartbeats 4000000 in
set_option maxRecDepth 100000 in
theorem c_X1_writeAll {G : xG} {n : Nat} {Q : Outcome → xS → Prop} {I : xI} {J : xJ} {R Z : xR} {T : xT} {N B D Lg : Nat} (hk : KS Z T N B) {m : Nat} (hm5 : m ≤ Lg - 1) (hD : kDp I N B D Lg) (hn : 4 ≤ n) (hq : Q (.returned (some (.int (oIf (kWall D m I).1)))) ((kWall D m I).2, J, R, Z, T)) : xCall G mX1_writeAll n [.ref (T.ad 0 0), .int (nI m)] (I, J, R, Z, T) Q := by
  refine x_met (L0 := [(1, .ref (T.ad 0 0)), (1, .int (nI m)), xo, xo, xo]) (by decide +kernel) rfl ⟨Nat.le_of_ble_eq_true rfl, rfl⟩ ?_
  have hdn := hD.1.n
  refine x_aload_n 1 dX1_writeAll_0 rfl rfl ?_
  refine x_getz 4 dX1_writeAll_1 rfl fl_X1_19 (hk.l0 (by omega)) (hk.z0_1 (by omega)) ?_
  refine x_aload_n 5 dX1_writeAll_4 rfl rfl ?_
  refine x_getz 8 dX1_writeAll_5 rfl fl_X1_92 (hk.l0 (by omega)) (hk.z0_0 (by omega)) ?_
  refine x_geti 11 dX1_writeAll_8 rfl fl_X1_164 (hk.l5 (by omega)) ?_
  refine x_iconst (v := 1) 12 dX1_writeAll_11 rfl rfl ?_
  refine x_iadd 13 dX1_writeAll_12 rfl ?_
  refine x_callV (as := [.int ((I 5 0 8) + 1)]) (rest := []) (i := 0) (n' := n - 1) 16 dX1_writeAll_13 rfl mv_X1_134 rfl rfl (hk.l1 (by omega)) (xnh rfl) (by omega) (xst (Nat.le_of_ble_eq_true rfl)) (c_X2_begin hk (by omega) ?_)
  change X _ _ _ _ _ _ _ _ _ _
  refine x_iconst (v := 0) 17 dX1_writeAll_16 rfl rfl ?_
  refine x_istore_n 18 [(1, .ref (T.ad 0 0)), (1, .int (nI m)), (1, .int 0), xo, xo] dX1_writeAll_17 rfl (by decide) rfl ?_
  have hD0 : kDp (kHd0 I (I 5 0 8 + 1)) N B D Lg := hD.hd0
  refine l18_wa (I0 := kHd0 I (I 5 0 8 + 1)) hk (by omega) (fun k => kWhn k) ?_ 0 _ (by omega) (by omega) rfl
  have hD1 : kDp (itA kWh (kHd0 I (I 5 0 8 + 1)) m) N B D Lg := hD0.wh
  obtain ⟨H, hH⟩ : ∃ H, H = itA kWh (kHd0 I (I 5 0 8 + 1)) m := ⟨_, rfl⟩
  rw [← hH]; rw [← hH] at hD1
  refine x_aload_n 43 dX1_writeAll_42 rfl rfl ?_
  refine x_getz 46 dX1_writeAll_43 rfl fl_X1_92 (hk.l0 (by omega)) (hk.z0_0 (by omega)) ?_
  refine x_lconst (v := 0) 47 dX1_writeAll_46 rfl rfl ?_
  refine x_aload_n 48 dX1_writeAll_47 rfl rfl ?_
  refine x_getz 51 dX1_writeAll_48 rfl fl_X1_19 (hk.l0 (by omega)) (hk.z0_1 (by omega)) ?_
  refine x_getz 54 dX1_writeAll_51 rfl fl_X1_136 (hk.l1 (by omega)) (hk.z1_0 (by omega)) ?_
  refine x_iconst (v := 0) 55 dX1_writeAll_54 rfl rfl ?_
  refine x_bipush (v := 120) 57 dX1_writeAll_55 rfl rfl ?_
  refine x_callV (as := [.long 0, .ref (T.ad 30 0), .int (nI 0), .int (nI 120)]) (rest := []) (i := 0) (n' := n - 1) 60 dX1_writeAll_57 rfl mv_X1_137 rfl rfl (hk.l5 (by omega)) (xnh rfl) (by omega) (xst (Nat.le_of_ble_eq_true rfl)) (c_X6_sum hk ar_30 (hk.l30 (by omega)) ⟨(by rw [(hk.n30 (by omega))]; omega), by omega⟩ (by omega) ?_)
  change X _ _ _ _ _ _ _ _ _ _
  refine x_nml fun x1 hx1 => ?_
  refine x_lstore_n 61 [(1, .ref (T.ad 0 0)), (1, .int (nI m)), (2, .long x1), xo, xo] dX1_writeAll_60 rfl (by decide) rfl ?_
  refine x_iconst (v := 0) 62 dX1_writeAll_61 rfl rfl ?_
  refine x_istore 64 [(1, .ref (T.ad 0 0)), (1, .int (nI m)), (2, .long x1), xo, (1, .int 0)] dX1_writeAll_62 rfl (by decide) rfl ?_
  have hs0 : x1 = kWs0 H := hx1
  refine l64_wa hk hD1.2 (by omega) ?_ 0 x1 (by omega) (by omega) rfl
  refine x_aload_n 104 dX1_writeAll_103 rfl rfl ?_
  refine x_getz 107 dX1_writeAll_104 rfl fl_X1_19 (hk.l0 (by omega)) (hk.z0_1 (by omega)) ?_
  refine x_lload_n 108 dX1_writeAll_107 rfl rfl ?_
  refine x_callV (as := [.long (kSm H x1 m)]) (rest := []) (i := 0) (n' := n - 1) 111 dX1_writeAll_108 rfl mv_X1_141 rfl rfl (hk.l1 (by omega)) (xnh rfl) (by omega) (xst (Nat.le_of_ble_eq_true rfl)) (c_X2_end hk (by omega) ?_)
  change X _ _ _ _ _ _ _ _ _ _
  refine x_iconst (v := 0) 112 dX1_writeAll_111 rfl rfl ?_
  refine x_istore 114 [(1, .ref (T.ad 0 0)), (1, .int (nI m)), (2, .long (kSm H x1 m)), xo, (1, .int 0)] dX1_writeAll_112 rfl (by decide) rfl ?_
  refine x_fgt [(1, .ref (T.ad 0 0)), (1, .int (nI m)), xo, xo, (1, .int 0)] ⟨Or.inr rfl, Or.inr rfl, Or.inl rfl, Or.inl rfl, Or.inr rfl, trivial⟩ ?_
  have eW : (xfil H 30 0 120 128 (hbS (kSm H x1 m))) = kWhd m I := by rw [hs0]; unfold kWhd; rw [← hH]
  rw [eW]
  refine l114_wa (n := n) (I0 := kWhd m I) hk hm5 ?_ ?_ 0 (kWhd m I) (by omega) (by omega) rfl hD.whd
  · intro I2 hK2 hD2
    have eL : kWall D m I = kWa1 D m I2 := by unfold kWall; rw [hK2]
    rw [eL] at hq
    refine x_aload_n 166 dX1_writeAll_165 rfl rfl ?_
    refine x_getz 169 dX1_writeAll_166 rfl fl_X1_92 (hk.l0 (by omega)) (hk.z0_0 (by omega)) ?_
    refine x_aload_n 170 dX1_writeAll_169 rfl rfl ?_
    refine x_getz 173 dX1_writeAll_170 rfl fl_X1_92 (hk.l0 (by omega)) (hk.z0_0 (by omega)) ?_
    refine x_callV (as := []) (rest := [.ref (T.ad 5 0)]) (i := 0) (n' := n - 1) 176 dX1_writeAll_173 rfl mv_X1_145 rfl rfl (hk.l5 (by omega)) (xnh rfl) (by omega) (xst (Nat.le_of_ble_eq_true rfl)) (c_X6_head hk hD2.1 (by omega) ?_)
    change X _ _ _ _ _ _ _ _ _ _
    refine x_aload_n 177 dX1_writeAll_176 rfl rfl ?_
    refine x_getz 180 dX1_writeAll_177 rfl fl_X1_19 (hk.l0 (by omega)) (hk.z0_1 (by omega)) ?_
    refine x_getz 183 dX1_writeAll_180 rfl fl_X1_136 (hk.l1 (by omega)) (hk.z1_0 (by omega)) ?_
    refine x_iconst (v := 0) 184 dX1_writeAll_183 rfl rfl ?_
    refine x_callV (as := [.int (nI (1 + D)), .ref (T.ad 30 0), .int (nI 0)]) (rest := []) (i := 0) (n' := n - 1) 187 dX1_writeAll_184 rfl mv_X1_489 rfl rfl (hk.l5 (by omega)) (xnh rfl) (by omega) (xst (Nat.le_of_ble_eq_true rfl)) (c_X6_write (I := I2) hk hD2.2 (by omega) ar_30 (hk.l30 (by omega)) (by decide) (by decide) ⟨by rw [hk.n30 (by omega)]; omega, by omega⟩ (by omega) ?_)
    change X _ _ _ _ _ _ _ _ _ _
    refine x_if_ne 192 190 dX1_writeAll_187 (by decide) rfl (fun c187 => ?_) (fun c187 => ?_)
    · skip
      have c187 : ¬ I2 5 0 5 = 1 := b2i_n0.mp c187
      refine x_aload_n 193 dX1_writeAll_192 rfl rfl ?_
      refine x_getz 196 dX1_writeAll_193 rfl fl_X1_92 (hk.l0 (by omega)) (hk.z0_0 (by omega)) ?_
      refine x_dup 197 dX1_writeAll_196 rfl rfl ?_
      refine x_geti 200 dX1_writeAll_197 rfl fl_X1_164 (hk.l5 (by omega)) ?_
      refine x_iconst (v := 1) 201 dX1_writeAll_200 rfl rfl ?_
      refine x_iadd 202 dX1_writeAll_201 rfl ?_
      refine x_puti 205 dX1_writeAll_202 rfl fl_X1_164 rfl rfl (hk.l5 (by omega)) ?_
      refine x_nmI fun I1 hI1 => ?_
      refine x_iconst (v := 0) 206 dX1_writeAll_205 rfl rfl ?_
      refine x_istore 208 [(1, .ref (T.ad 0 0)), (1, .int (nI m)), xo, xo, (1, .int 0)] dX1_writeAll_206 rfl (by decide) rfl ?_
      unfold kWa1 at hq; rw [if_neg c187] at hq
      have e2 : (kWa2 D m (xu (kDW I2 (1 + D) (I2 30 0) 0) 5 0 8 (kDW I2 (1 + D) (I2 30 0) 0 5 0 8 + 1))).1 = true := by unfold kWa2; split <;> rfl
      rw [e2] at hq
      rw [hI1]
      refine s205_wa hk hm5 (hD2.dw.u rfl (by omega) (by omega)) hq (by omega)
    · skip
      have c187 : ¬ (¬ I2 5 0 5 = 1) := b2i_0.mp c187
      refine x_iconst (v := 0) 191 dX1_writeAll_190 rfl rfl ?_
      refine x_zreturn dX1_writeAll_191 rfl (Or.inl rfl) ?_
      unfold kWa1 at hq; rw [if_pos (Classical.not_not.mp c187)] at hq; exact hq
  · intro I2 hK2
    have eL : kWall D m I = (false, I2) := by unfold kWall; rw [hK2]
    rw [eL] at hq; exact hq
