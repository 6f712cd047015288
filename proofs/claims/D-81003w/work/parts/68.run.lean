set_option maxRecDepth 100000
theorem xtn {c hi : Nat} (h : hi < c) (hc : c < 100) : ∀ k, k ≤ hi → ¬ nI c = nI k := fun k hk e => by
  have := (nI_eq (a := c) (b := k) (by omega) (by omega)).mp e
  omega
theorem kOsN {Q : Outcome → xS → Prop} {x : kX} {r t : kQ} (h : r = t) (k : kOs Q x r) : kOs Q x t := by rw [← h]; exact k
noncomputable def kTwin (s : kK) (me d : Nat) : kQ := match s.2.1 46 me d with
  | none => kRf s (-2)
  | some o => if 8 - cntN (fun k => ¬ s.2.1 46 me k = none) 8 < 1 then kRf s (-11) else kRt (s.1, xu s.2.1 46 me (kFdN s me) (some o), s.2.2) (nI (kFdN s me))
noncomputable def kGo (N : Nat) (s : kK) (me : Nat) (tp : Nat → Int32) (fr lg : Nat → Nat) (st : Nat) : kQ :=
  kB (kFnd N s me 0 tp fr lg st) fun s d => cif (iDir s.1 d) (kRt (s.1, xu s.2.1 9 me 5 (some d), s.2.2) 0) (kRf s (-4))
noncomputable def kTakeS (N : Nat) (s : kK) (me : Nat) : kQ := kU (kAccess N s me 8 (nI me) 0 0 1) fun s => kRt (xu s.1 9 me 6 0, s.2.1, s.2.2) (s.1 9 me 6)
noncomputable def kXab (N : Nat) (s : kK) (me : Nat) : kQ := cif (pGrp s.1 me) (kRt (kAbort N s me) (s.1 9 me 8)) (kRf s (-5))
theorem dX1_run_0 : decode cX1_run 0 = .ok (.iload_n 1, 1) := by decide +kernel
theorem dX1_run_1 : decode cX1_run 1 = .ok (.tableswitch 322 0 22 #[107, 113, 119, 126, 134, 141, 148, 177, 182, 187, 192, 197, 202, 207, 213, 218, 256, 261, 267, 272, 279, 312, 317], 107) := by decide +kernel
theorem dX1_run_108 : decode cX1_run 108 = .ok (.aload_n 0, 1) := by decide +kernel
theorem dX1_run_109 : decode cX1_run 109 = .ok (.iload_n 2, 1) := by decide +kernel
theorem dX1_run_110 : decode cX1_run 110 = .ok (.invokevirtual 526, 3) := by decide +kernel
theorem dX1_run_113 : decode cX1_run 113 = .ok (.ireturn, 1) := by decide +kernel
theorem dX1_run_114 : decode cX1_run 114 = .ok (.aload_n 0, 1) := by decide +kernel
theorem dX1_run_115 : decode cX1_run 115 = .ok (.iload_n 2, 1) := by decide +kernel
theorem dX1_run_116 : decode cX1_run 116 = .ok (.invokevirtual 529, 3) := by decide +kernel
theorem dX1_run_119 : decode cX1_run 119 = .ok (.ireturn, 1) := by decide +kernel
theorem dX1_run_120 : decode cX1_run 120 = .ok (.aload_n 0, 1) := by decide +kernel
theorem dX1_run_121 : decode cX1_run 121 = .ok (.iload_n 2, 1) := by decide +kernel
theorem dX1_run_122 : decode cX1_run 122 = .ok (.iload_n 3, 1) := by decide +kernel
theorem dX1_run_123 : decode cX1_run 123 = .ok (.invokevirtual 532, 3) := by decide +kernel
theorem dX1_run_126 : decode cX1_run 126 = .ok (.ireturn, 1) := by decide +kernel
theorem dX1_run_127 : decode cX1_run 127 = .ok (.aload_n 0, 1) := by decide +kernel
theorem dX1_run_128 : decode cX1_run 128 = .ok (.iload_n 2, 1) := by decide +kernel
theorem dX1_run_129 : decode cX1_run 129 = .ok (.iload 4, 2) := by decide +kernel
theorem dX1_run_131 : decode cX1_run 131 = .ok (.invokevirtual 535, 3) := by decide +kernel
theorem dX1_run_134 : decode cX1_run 134 = .ok (.ireturn, 1) := by decide +kernel
theorem dX1_run_135 : decode cX1_run 135 = .ok (.aload_n 0, 1) := by decide +kernel
theorem dX1_run_136 : decode cX1_run 136 = .ok (.iload_n 2, 1) := by decide +kernel
theorem dX1_run_137 : decode cX1_run 137 = .ok (.iload_n 3, 1) := by decide +kernel
theorem dX1_run_138 : decode cX1_run 138 = .ok (.invokevirtual 538, 3) := by decide +kernel
theorem dX1_run_141 : decode cX1_run 141 = .ok (.ireturn, 1) := by decide +kernel
theorem dX1_run_142 : decode cX1_run 142 = .ok (.aload_n 0, 1) := by decide +kernel
theorem dX1_run_143 : decode cX1_run 143 = .ok (.iload_n 2, 1) := by decide +kernel
theorem dX1_run_144 : decode cX1_run 144 = .ok (.iload_n 3, 1) := by decide +kernel
theorem dX1_run_145 : decode cX1_run 145 = .ok (.invokevirtual 541, 3) := by decide +kernel
theorem dX1_run_148 : decode cX1_run 148 = .ok (.ireturn, 1) := by decide +kernel
theorem dX1_run_149 : decode cX1_run 149 = .ok (.aload_n 0, 1) := by decide +kernel
theorem dX1_run_150 : decode cX1_run 150 = .ok (.iload_n 2, 1) := by decide +kernel
theorem dX1_run_151 : decode cX1_run 151 = .ok (.invokevirtual 544, 3) := by decide +kernel
theorem dX1_run_154 : decode cX1_run 154 = .ok (.astore 5, 2) := by decide +kernel
theorem dX1_run_156 : decode cX1_run 156 = .ok (.aload_n 0, 1) := by decide +kernel
theorem dX1_run_157 : decode cX1_run 157 = .ok (.iconst 1, 1) := by decide +kernel
theorem dX1_run_158 : decode cX1_run 158 = .ok (.invokevirtual 546, 3) := by decide +kernel
theorem dX1_run_161 : decode cX1_run 161 = .ok (.istore 6, 2) := by decide +kernel
theorem dX1_run_163 : decode cX1_run 163 = .ok (.aload_n 0, 1) := by decide +kernel
theorem dX1_run_164 : decode cX1_run 164 = .ok (.getfield 371, 3) := by decide +kernel
theorem dX1_run_167 : decode cX1_run 167 = .ok (.getfield 246, 3) := by decide +kernel
theorem dX1_run_170 : decode cX1_run 170 = .ok (.iload 6, 2) := by decide +kernel
theorem dX1_run_172 : decode cX1_run 172 = .ok (.aload 5, 2) := by decide +kernel
theorem dX1_run_174 : decode cX1_run 174 = .ok (.aastore, 1) := by decide +kernel
theorem dX1_run_175 : decode cX1_run 175 = .ok (.iload 6, 2) := by decide +kernel
theorem dX1_run_177 : decode cX1_run 177 = .ok (.ireturn, 1) := by decide +kernel
theorem dX1_run_178 : decode cX1_run 178 = .ok (.aload_n 0, 1) := by decide +kernel
theorem dX1_run_179 : decode cX1_run 179 = .ok (.invokevirtual 549, 3) := by decide +kernel
theorem dX1_run_182 : decode cX1_run 182 = .ok (.ireturn, 1) := by decide +kernel
theorem dX1_run_183 : decode cX1_run 183 = .ok (.aload_n 0, 1) := by decide +kernel
theorem dX1_run_184 : decode cX1_run 184 = .ok (.invokevirtual 552, 3) := by decide +kernel
theorem dX1_run_187 : decode cX1_run 187 = .ok (.ireturn, 1) := by decide +kernel
theorem dX1_run_188 : decode cX1_run 188 = .ok (.aload_n 0, 1) := by decide +kernel
theorem dX1_run_189 : decode cX1_run 189 = .ok (.invokevirtual 555, 3) := by decide +kernel
theorem dX1_run_192 : decode cX1_run 192 = .ok (.ireturn, 1) := by decide +kernel
theorem dX1_run_193 : decode cX1_run 193 = .ok (.aload_n 0, 1) := by decide +kernel
theorem dX1_run_194 : decode cX1_run 194 = .ok (.invokevirtual 558, 3) := by decide +kernel
theorem dX1_run_197 : decode cX1_run 197 = .ok (.ireturn, 1) := by decide +kernel
theorem dX1_run_198 : decode cX1_run 198 = .ok (.aload_n 0, 1) := by decide +kernel
theorem dX1_run_199 : decode cX1_run 199 = .ok (.invokevirtual 561, 3) := by decide +kernel
theorem dX1_run_202 : decode cX1_run 202 = .ok (.ireturn, 1) := by decide +kernel
theorem dX1_run_203 : decode cX1_run 203 = .ok (.aload_n 0, 1) := by decide +kernel
theorem dX1_run_204 : decode cX1_run 204 = .ok (.invokevirtual 564, 3) := by decide +kernel
theorem dX1_run_207 : decode cX1_run 207 = .ok (.ireturn, 1) := by decide +kernel
theorem dX1_run_208 : decode cX1_run 208 = .ok (.aload_n 0, 1) := by decide +kernel
theorem dX1_run_209 : decode cX1_run 209 = .ok (.iload_n 2, 1) := by decide +kernel
theorem dX1_run_210 : decode cX1_run 210 = .ok (.invokevirtual 567, 3) := by decide +kernel
theorem dX1_run_213 : decode cX1_run 213 = .ok (.ireturn, 1) := by decide +kernel
theorem dX1_run_214 : decode cX1_run 214 = .ok (.aload_n 0, 1) := by decide +kernel
theorem dX1_run_215 : decode cX1_run 215 = .ok (.invokevirtual 570, 3) := by decide +kernel
theorem dX1_run_218 : decode cX1_run 218 = .ok (.ireturn, 1) := by decide +kernel
theorem dX1_run_219 : decode cX1_run 219 = .ok (.aload_n 0, 1) := by decide +kernel
theorem dX1_run_220 : decode cX1_run 220 = .ok (.getfield 76, 3) := by decide +kernel
theorem dX1_run_223 : decode cX1_run 223 = .ok (.invokevirtual 573, 3) := by decide +kernel
theorem dX1_run_226 : decode cX1_run 226 = .ok (.astore 7, 2) := by decide +kernel
theorem dX1_run_228 : decode cX1_run 228 = .ok (.aload 7, 2) := by decide +kernel
theorem dX1_run_230 : decode cX1_run 230 = .ok (.invokevirtual 403, 3) := by decide +kernel
theorem dX1_run_233 : decode cX1_run 233 = .ok (.ifCond .ne 13, 3) := by decide +kernel
theorem dX1_run_236 : decode cX1_run 236 = .ok (.aload_n 0, 1) := by decide +kernel
theorem dX1_run_237 : decode cX1_run 237 = .ok (.getfield 53, 3) := by decide +kernel
theorem dX1_run_240 : decode cX1_run 240 = .ok (.bipush (-4), 2) := by decide +kernel
theorem dX1_run_242 : decode cX1_run 242 = .ok (.invokevirtual 364, 3) := by decide +kernel
theorem dX1_run_245 : decode cX1_run 245 = .ok (.athrow, 1) := by decide +kernel
theorem dX1_run_246 : decode cX1_run 246 = .ok (.aload_n 0, 1) := by decide +kernel
theorem dX1_run_247 : decode cX1_run 247 = .ok (.getfield 371, 3) := by decide +kernel
theorem dX1_run_250 : decode cX1_run 250 = .ok (.aload 7, 2) := by decide +kernel
theorem dX1_run_252 : decode cX1_run 252 = .ok (.putfield 194, 3) := by decide +kernel
theorem dX1_run_255 : decode cX1_run 255 = .ok (.iconst 0, 1) := by decide +kernel
theorem dX1_run_256 : decode cX1_run 256 = .ok (.ireturn, 1) := by decide +kernel
theorem dX1_run_257 : decode cX1_run 257 = .ok (.aload_n 0, 1) := by decide +kernel
theorem dX1_run_258 : decode cX1_run 258 = .ok (.invokevirtual 576, 3) := by decide +kernel
theorem dX1_run_261 : decode cX1_run 261 = .ok (.ireturn, 1) := by decide +kernel
theorem dX1_run_262 : decode cX1_run 262 = .ok (.aload_n 0, 1) := by decide +kernel
theorem dX1_run_263 : decode cX1_run 263 = .ok (.iload_n 2, 1) := by decide +kernel
theorem dX1_run_264 : decode cX1_run 264 = .ok (.invokevirtual 579, 3) := by decide +kernel
theorem dX1_run_267 : decode cX1_run 267 = .ok (.ireturn, 1) := by decide +kernel
theorem dX1_run_268 : decode cX1_run 268 = .ok (.aload_n 0, 1) := by decide +kernel
theorem dX1_run_269 : decode cX1_run 269 = .ok (.invokevirtual 582, 3) := by decide +kernel
theorem dX1_run_272 : decode cX1_run 272 = .ok (.ireturn, 1) := by decide +kernel
theorem dX1_run_273 : decode cX1_run 273 = .ok (.aload_n 0, 1) := by decide +kernel
theorem dX1_run_274 : decode cX1_run 274 = .ok (.iload_n 2, 1) := by decide +kernel
theorem dX1_run_275 : decode cX1_run 275 = .ok (.iload_n 3, 1) := by decide +kernel
theorem dX1_run_276 : decode cX1_run 276 = .ok (.invokevirtual 585, 3) := by decide +kernel
theorem dX1_run_279 : decode cX1_run 279 = .ok (.ireturn, 1) := by decide +kernel
theorem dX1_run_280 : decode cX1_run 280 = .ok (.aload_n 0, 1) := by decide +kernel
theorem dX1_run_281 : decode cX1_run 281 = .ok (.bipush 8, 2) := by decide +kernel
theorem dX1_run_283 : decode cX1_run 283 = .ok (.aload_n 0, 1) := by decide +kernel
theorem dX1_run_284 : decode cX1_run 284 = .ok (.getfield 371, 3) := by decide +kernel
theorem dX1_run_287 : decode cX1_run 287 = .ok (.getfield 346, 3) := by decide +kernel
theorem dX1_run_290 : decode cX1_run 290 = .ok (.invokevirtual 588, 3) := by decide +kernel
theorem dX1_run_293 : decode cX1_run 293 = .ok (.aload_n 0, 1) := by decide +kernel
theorem dX1_run_294 : decode cX1_run 294 = .ok (.getfield 371, 3) := by decide +kernel
theorem dX1_run_297 : decode cX1_run 297 = .ok (.getfield 319, 3) := by decide +kernel
theorem dX1_run_300 : decode cX1_run 300 = .ok (.istore 8, 2) := by decide +kernel
theorem dX1_run_302 : decode cX1_run 302 = .ok (.aload_n 0, 1) := by decide +kernel
theorem dX1_run_303 : decode cX1_run 303 = .ok (.getfield 371, 3) := by decide +kernel
theorem dX1_run_306 : decode cX1_run 306 = .ok (.iconst 0, 1) := by decide +kernel
theorem dX1_run_307 : decode cX1_run 307 = .ok (.putfield 319, 3) := by decide +kernel
theorem dX1_run_310 : decode cX1_run 310 = .ok (.iload 8, 2) := by decide +kernel
theorem dX1_run_312 : decode cX1_run 312 = .ok (.ireturn, 1) := by decide +kernel
theorem dX1_run_313 : decode cX1_run 313 = .ok (.aload_n 0, 1) := by decide +kernel
theorem dX1_run_314 : decode cX1_run 314 = .ok (.invokevirtual 590, 3) := by decide +kernel
theorem dX1_run_317 : decode cX1_run 317 = .ok (.ireturn, 1) := by decide +kernel
theorem dX1_run_318 : decode cX1_run 318 = .ok (.aload_n 0, 1) := by decide +kernel
theorem dX1_run_319 : decode cX1_run 319 = .ok (.invokevirtual 593, 3) := by decide +kernel
theorem dX1_run_322 : decode cX1_run 322 = .ok (.ireturn, 1) := by decide +kernel
theorem dX1_run_323 : decode cX1_run 323 = .ok (.aload_n 0, 1) := by decide +kernel
theorem dX1_run_324 : decode cX1_run 324 = .ok (.getfield 371, 3) := by decide +kernel
theorem dX1_run_327 : decode cX1_run 327 = .ok (.invokevirtual 231, 3) := by decide +kernel
theorem dX1_run_330 : decode cX1_run 330 = .ok (.ifCond .ne 13, 3) := by decide +kernel
theorem dX1_run_333 : decode cX1_run 333 = .ok (.aload_n 0, 1) := by decide +kernel
theorem dX1_run_334 : decode cX1_run 334 = .ok (.getfield 53, 3) := by decide +kernel
theorem dX1_run_337 : decode cX1_run 337 = .ok (.bipush (-5), 2) := by decide +kernel
theorem dX1_run_339 : decode cX1_run 339 = .ok (.invokevirtual 364, 3) := by decide +kernel
theorem dX1_run_342 : decode cX1_run 342 = .ok (.athrow, 1) := by decide +kernel
theorem dX1_run_343 : decode cX1_run 343 = .ok (.aload_n 0, 1) := by decide +kernel
theorem dX1_run_344 : decode cX1_run 344 = .ok (.getfield 371, 3) := by decide +kernel
theorem dX1_run_347 : decode cX1_run 347 = .ok (.getfield 596, 3) := by decide +kernel
theorem dX1_run_350 : decode cX1_run 350 = .ok (.istore 9, 2) := by decide +kernel
theorem dX1_run_352 : decode cX1_run 352 = .ok (.aload_n 0, 1) := by decide +kernel
theorem dX1_run_353 : decode cX1_run 353 = .ok (.aload_n 0, 1) := by decide +kernel
theorem dX1_run_354 : decode cX1_run 354 = .ok (.getfield 371, 3) := by decide +kernel
theorem dX1_run_357 : decode cX1_run 357 = .ok (.invokevirtual 353, 3) := by decide +kernel
theorem dX1_run_360 : decode cX1_run 360 = .ok (.iload 9, 2) := by decide +kernel
theorem dX1_run_362 : decode cX1_run 362 = .ok (.ireturn, 1) := by decide +kernel
set_option maxHeartbeats 400000 in
set_option maxRecDepth 100000 in
theorem c_X1_run_0 {G : xG} {n : Nat} {Q : Outcome → xS → Prop} {x : kX} {I : xI} {R : xR} {v : kV} {th : List xTh} {mm : Nat} (hT : KT x v th) (hK : KI (I, R, th) x.N mm) {st : Nat} {fr lg : Nat → Nat} (hp : PS I 0 st fr lg) {tp : Nat → Int32} (htp : I 27 0 = tp) {va vb vc : Int32} (hmm : mm + 300 < 16384) {me : Nat} (hme : R 0 0 19 = some me) (hme16 : me < 16) (hn : 17 ≤ n) (hq : kOs Q x (kDoOpen x.N (I, R, th) me tp fr lg st va)) : xCall G mX1_run n [.ref (x.ad 0 0), .int 0, .int va, .int vb, .int vc] (kS I R x v) Q := by
  refine x_met (L0 := [(1, .ref (x.ad 0 0)), (1, .int 0), (1, .int va), (1, .int vb), (1, .int vc), xo, xo, xo, xo, xo]) (by decide +kernel) rfl ⟨Nat.le_of_ble_eq_true rfl, rfl⟩ ?_
  have hnb := hT.ks.nb
  refine x_iload_n 1 dX1_run_0 rfl rfl ?_
  refine x_tin 0 108 dX1_run_1 rfl (by decide) (by decide) rfl (by decide) ?_
  refine x_aload_n 109 dX1_run_108 rfl rfl ?_
  refine x_iload_n 110 dX1_run_109 rfl rfl ?_
  obtain ⟨r_, hd_⟩ : ∃ r : kQ, r = kDoOpen x.N (I, R, th) me tp fr lg st va := ⟨_, rfl⟩
  rw [← hd_] at hq
  refine x_callV (as := [.int va]) (rest := []) (i := 0) (n' := n - 1) 113 dX1_run_110 rfl mv_X1_526 rfl rfl (hT.ks.l0 (by omega)) (xnh rfl) (by omega) (xst (Nat.le_of_ble_eq_true rfl)) (c_X1_doOpen hT hK hp htp (by omega) hme hme16 (by omega) (kOsN hd_ ⟨fun h99 => ?_, ⟨?_, ?_⟩⟩))
  · skip
    exact hq.1 h99
  · skip
    intro hz w1 hU1
    change X _ _ _ _ _ _ _ _ _ _
    refine x_ireturn dX1_run_113 rfl ?_
    exact hq.2.1 hz _ hU1
  · skip
    intro hz w1 hU1
    exact hq.2.2 hz _ hU1
set_option maxHeartbeats 400000 in
set_option maxRecDepth 100000 in
theorem c_X1_run_1 {G : xG} {n : Nat} {Q : Outcome → xS → Prop} {x : kX} {I : xI} {R : xR} {v : kV} {th : List xTh} {mm : Nat} (hT : KT x v th) (hK : KI (I, R, th) x.N mm) {d : Nat} (hd8 : d < 8) {vb vc : Int32} (hmm : mm + 300 < 16384) {me : Nat} (hme : R 0 0 19 = some me) (hme16 : me < 16) (hn : 17 ≤ n) (hq : kOs Q x (kDoClose x.N (I, R, th) me d)) : xCall G mX1_run n [.ref (x.ad 0 0), .int 1, .int (nI d), .int vb, .int vc] (kS I R x v) Q := by
  refine x_met (L0 := [(1, .ref (x.ad 0 0)), (1, .int 1), (1, .int (nI d)), (1, .int vb), (1, .int vc), xo, xo, xo, xo, xo]) (by decide +kernel) rfl ⟨Nat.le_of_ble_eq_true rfl, rfl⟩ ?_
  have hnb := hT.ks.nb
  refine x_iload_n 1 dX1_run_0 rfl rfl ?_
  refine x_tin 1 114 dX1_run_1 rfl (by decide) (by decide) rfl (by decide) ?_
  refine x_aload_n 115 dX1_run_114 rfl rfl ?_
  refine x_iload_n 116 dX1_run_115 rfl rfl ?_
  obtain ⟨r_, hd_⟩ : ∃ r : kQ, r = kDoClose x.N (I, R, th) me d := ⟨_, rfl⟩
  rw [← hd_] at hq
  refine x_callV (as := [.int (nI d)]) (rest := []) (i := 0) (n' := n - 1) 119 dX1_run_116 rfl mv_X1_529 rfl rfl (hT.ks.l0 (by omega)) (xnh rfl) (by omega) (xst (Nat.le_of_ble_eq_true rfl)) (c_X1_doClose hT hK hd8 (by omega) hme hme16 (by omega) (kOsN hd_ ⟨fun h99 => ?_, ⟨?_, ?_⟩⟩))
  · skip
    exact hq.1 h99
  · skip
    intro hz w1 hU1
    change X _ _ _ _ _ _ _ _ _ _
    refine x_ireturn dX1_run_119 rfl ?_
    exact hq.2.1 hz _ hU1
  · skip
    intro hz w1 hU1
    exact hq.2.2 hz _ hU1
set_option maxHeartbeats 400000 in
set_option maxRecDepth 100000 in
theorem c_X1_run_2 {G : xG} {n : Nat} {Q : Outcome → xS → Prop} {x : kX} {I : xI} {R : xR} {v : kV} {th : List xTh} {mm : Nat} (hT : KT x v th) (hK : KI (I, R, th) x.N mm) {d m : Nat} (hd8 : d < 8) (hm2 : m ≤ 200) {vc : Int32} (hmm : mm + 300 < 16384) {me : Nat} (hme : R 0 0 19 = some me) (hme16 : me < 16) (hn : 17 ≤ n) (hq : kOs Q x (kDoRead x.N (I, R, th) me d m)) : xCall G mX1_run n [.ref (x.ad 0 0), .int 2, .int (nI d), .int (nI m), .int vc] (kS I R x v) Q := by
  refine x_met (L0 := [(1, .ref (x.ad 0 0)), (1, .int 2), (1, .int (nI d)), (1, .int (nI m)), (1, .int vc), xo, xo, xo, xo, xo]) (by decide +kernel) rfl ⟨Nat.le_of_ble_eq_true rfl, rfl⟩ ?_
  have hnb := hT.ks.nb
  refine x_iload_n 1 dX1_run_0 rfl rfl ?_
  refine x_tin 2 120 dX1_run_1 rfl (by decide) (by decide) rfl (by decide) ?_
  refine x_aload_n 121 dX1_run_120 rfl rfl ?_
  refine x_iload_n 122 dX1_run_121 rfl rfl ?_
  refine x_iload_n 123 dX1_run_122 rfl rfl ?_
  obtain ⟨r_, hd_⟩ : ∃ r : kQ, r = kDoRead x.N (I, R, th) me d m := ⟨_, rfl⟩
  rw [← hd_] at hq
  refine x_callV (as := [.int (nI d), .int (nI m)]) (rest := []) (i := 0) (n' := n - 1) 126 dX1_run_123 rfl mv_X1_532 rfl rfl (hT.ks.l0 (by omega)) (xnh rfl) (by omega) (xst (Nat.le_of_ble_eq_true rfl)) (c_X1_doRead hT hK hd8 hm2 (by omega) hme hme16 (by omega) (kOsN hd_ ⟨fun h99 => ?_, ⟨?_, ?_⟩⟩))
  · skip
    exact hq.1 h99
  · skip
    intro hz w1 hU1
    change X _ _ _ _ _ _ _ _ _ _
    refine x_ireturn dX1_run_126 rfl ?_
    exact hq.2.1 hz _ hU1
  · skip
    intro hz w1 hU1
    exact hq.2.2 hz _ hU1
set_option maxHeartbeats 400000 in
set_option maxRecDepth 100000 in
theorem c_X1_run_3 {G : xG} {n : Nat} {Q : Outcome → xS → Prop} {x : kX} {I : xI} {R : xR} {v : kV} {th : List xTh} {mm : Nat} (hT : KT x v th) (hK : KI (I, R, th) x.N mm) {d m : Nat} (hd8 : d < 8) (hm2 : m ≤ 256) {vb : Int32} (hmm : mm + 300 < 16384) {me : Nat} (hme : R 0 0 19 = some me) (hme16 : me < 16) (hn : 17 ≤ n) (hq : kOs Q x (kDoWrite x.N (I, R, th) me d m)) : xCall G mX1_run n [.ref (x.ad 0 0), .int 3, .int (nI d), .int vb, .int (nI m)] (kS I R x v) Q := by
  refine x_met (L0 := [(1, .ref (x.ad 0 0)), (1, .int 3), (1, .int (nI d)), (1, .int vb), (1, .int (nI m)), xo, xo, xo, xo, xo]) (by decide +kernel) rfl ⟨Nat.le_of_ble_eq_true rfl, rfl⟩ ?_
  have hnb := hT.ks.nb
  refine x_iload_n 1 dX1_run_0 rfl rfl ?_
  refine x_tin 3 127 dX1_run_1 rfl (by decide) (by decide) rfl (by decide) ?_
  refine x_aload_n 128 dX1_run_127 rfl rfl ?_
  refine x_iload_n 129 dX1_run_128 rfl rfl ?_
  refine x_iload 131 dX1_run_129 rfl rfl ?_
  obtain ⟨r_, hd_⟩ : ∃ r : kQ, r = kDoWrite x.N (I, R, th) me d m := ⟨_, rfl⟩
  rw [← hd_] at hq
  refine x_callV (as := [.int (nI d), .int (nI m)]) (rest := []) (i := 0) (n' := n - 1) 134 dX1_run_131 rfl mv_X1_535 rfl rfl (hT.ks.l0 (by omega)) (xnh rfl) (by omega) (xst (Nat.le_of_ble_eq_true rfl)) (c_X1_doWrite hT hK hd8 hm2 (by omega) hme hme16 (by omega) (kOsN hd_ ⟨fun h99 => ?_, ⟨?_, ?_⟩⟩))
  · skip
    exact hq.1 h99
  · skip
    intro hz w1 hU1
    change X _ _ _ _ _ _ _ _ _ _
    refine x_ireturn dX1_run_134 rfl ?_
    exact hq.2.1 hz _ hU1
  · skip
    intro hz w1 hU1
    exact hq.2.2 hz _ hU1
set_option maxHeartbeats 400000 in
set_option maxRecDepth 100000 in
theorem c_X1_run_4 {G : xG} {n : Nat} {Q : Outcome → xS → Prop} {x : kX} {I : xI} {R : xR} {v : kV} {th : List xTh} {mm : Nat} (hT : KT x v th) (hK : KI (I, R, th) x.N mm) {d : Nat} (hd8 : d < 8) {vb vc : Int32} (hmm : mm + 300 < 16384) {me : Nat} (hme : R 0 0 19 = some me) (hme16 : me < 16) (hn : 17 ≤ n) (hq : kOs Q x (kDoSeek x.N (I, R, th) me d vb)) : xCall G mX1_run n [.ref (x.ad 0 0), .int 4, .int (nI d), .int vb, .int vc] (kS I R x v) Q := by
  refine x_met (L0 := [(1, .ref (x.ad 0 0)), (1, .int 4), (1, .int (nI d)), (1, .int vb), (1, .int vc), xo, xo, xo, xo, xo]) (by decide +kernel) rfl ⟨Nat.le_of_ble_eq_true rfl, rfl⟩ ?_
  have hnb := hT.ks.nb
  refine x_iload_n 1 dX1_run_0 rfl rfl ?_
  refine x_tin 4 135 dX1_run_1 rfl (by decide) (by decide) rfl (by decide) ?_
  refine x_aload_n 136 dX1_run_135 rfl rfl ?_
  refine x_iload_n 137 dX1_run_136 rfl rfl ?_
  refine x_iload_n 138 dX1_run_137 rfl rfl ?_
  obtain ⟨r_, hd_⟩ : ∃ r : kQ, r = kDoSeek x.N (I, R, th) me d vb := ⟨_, rfl⟩
  rw [← hd_] at hq
  refine x_callV (as := [.int (nI d), .int vb]) (rest := []) (i := 0) (n' := n - 1) 141 dX1_run_138 rfl mv_X1_538 rfl rfl (hT.ks.l0 (by omega)) (xnh rfl) (by omega) (xst (Nat.le_of_ble_eq_true rfl)) (c_X1_doSeek hT hK hd8 (by omega) hme hme16 (by omega) (kOsN hd_ ⟨fun h99 => ?_, ⟨?_, ?_⟩⟩))
  · skip
    exact hq.1 h99
  · skip
    intro hz w1 hU1
    change X _ _ _ _ _ _ _ _ _ _
    refine x_ireturn dX1_run_141 rfl ?_
    exact hq.2.1 hz _ hU1
  · skip
    intro hz w1 hU1
    exact hq.2.2 hz _ hU1
set_option maxHeartbeats 400000 in
set_option maxRecDepth 100000 in
theorem c_X1_run_5 {G : xG} {n : Nat} {Q : Outcome → xS → Prop} {x : kX} {I : xI} {R : xR} {v : kV} {th : List xTh} {mm : Nat} (hT : KT x v th) (hK : KI (I, R, th) x.N mm) {d m : Nat} (hd8 : d < 8) (hm8 : m ≤ 8192) {vc : Int32} (hmm : mm + 300 < 16384) {me : Nat} (hme : R 0 0 19 = some me) (hme16 : me < 16) (hn : 17 ≤ n) (hq : kOs Q x (kDoCut x.N (I, R, th) me d m)) : xCall G mX1_run n [.ref (x.ad 0 0), .int 5, .int (nI d), .int (nI m), .int vc] (kS I R x v) Q := by
  refine x_met (L0 := [(1, .ref (x.ad 0 0)), (1, .int 5), (1, .int (nI d)), (1, .int (nI m)), (1, .int vc), xo, xo, xo, xo, xo]) (by decide +kernel) rfl ⟨Nat.le_of_ble_eq_true rfl, rfl⟩ ?_
  have hnb := hT.ks.nb
  refine x_iload_n 1 dX1_run_0 rfl rfl ?_
  refine x_tin 5 142 dX1_run_1 rfl (by decide) (by decide) rfl (by decide) ?_
  refine x_aload_n 143 dX1_run_142 rfl rfl ?_
  refine x_iload_n 144 dX1_run_143 rfl rfl ?_
  refine x_iload_n 145 dX1_run_144 rfl rfl ?_
  obtain ⟨r_, hd_⟩ : ∃ r : kQ, r = kDoCut x.N (I, R, th) me d m := ⟨_, rfl⟩
  rw [← hd_] at hq
  refine x_callV (as := [.int (nI d), .int (nI m)]) (rest := []) (i := 0) (n' := n - 1) 148 dX1_run_145 rfl mv_X1_541 rfl rfl (hT.ks.l0 (by omega)) (xnh rfl) (by omega) (xst (Nat.le_of_ble_eq_true rfl)) (c_X1_doCut hT hK hd8 hm8 (by omega) hme hme16 (by omega) (kOsN hd_ ⟨fun h99 => ?_, ⟨?_, ?_⟩⟩))
  · skip
    exact hq.1 h99
  · skip
    intro hz w1 hU1
    change X _ _ _ _ _ _ _ _ _ _
    refine x_ireturn dX1_run_148 rfl ?_
    exact hq.2.1 hz _ hU1
  · skip
    intro hz w1 hU1
    exact hq.2.2 hz _ hU1
set_option maxHeartbeats 400000 in
set_option maxRecDepth 100000 in
theorem c_X1_run_7 {G : xG} {n : Nat} {Q : Outcome → xS → Prop} {x : kX} {I : xI} {R : xR} {v : kV} {th : List xTh} {mm : Nat} (hT : KT x v th) (hK : KI (I, R, th) x.N mm) {va vb vc : Int32} (hmm : mm + 300 < 16384) {me : Nat} (hme : R 0 0 19 = some me) (hme16 : me < 16) (hn : 17 ≤ n) (hq : kOs Q x (kDoPipe (I, R, th) me)) : xCall G mX1_run n [.ref (x.ad 0 0), .int 7, .int va, .int vb, .int vc] (kS I R x v) Q := by
  refine x_met (L0 := [(1, .ref (x.ad 0 0)), (1, .int 7), (1, .int va), (1, .int vb), (1, .int vc), xo, xo, xo, xo, xo]) (by decide +kernel) rfl ⟨Nat.le_of_ble_eq_true rfl, rfl⟩ ?_
  have hnb := hT.ks.nb
  refine x_iload_n 1 dX1_run_0 rfl rfl ?_
  refine x_tin 7 178 dX1_run_1 rfl (by decide) (by decide) rfl (by decide) ?_
  refine x_aload_n 179 dX1_run_178 rfl rfl ?_
  obtain ⟨r_, hd_⟩ : ∃ r : kQ, r = kDoPipe (I, R, th) me := ⟨_, rfl⟩
  rw [← hd_] at hq
  refine x_callV (as := []) (rest := []) (i := 0) (n' := n - 1) 182 dX1_run_179 rfl mv_X1_549 rfl rfl (hT.ks.l0 (by omega)) (xnh rfl) (by omega) (xst (Nat.le_of_ble_eq_true rfl)) (c_X1_doPipe hT hK (by omega) hme hme16 (by omega) (kOsN hd_ ⟨fun h99 => ?_, ⟨?_, ?_⟩⟩))
  · skip
    exact hq.1 h99
  · skip
    intro hz w1 hU1
    change X _ _ _ _ _ _ _ _ _ _
    refine x_ireturn dX1_run_182 rfl ?_
    exact hq.2.1 hz _ hU1
  · skip
    intro hz w1 hU1
    exact hq.2.2 hz _ hU1
set_option maxHeartbeats 400000 in
set_option maxRecDepth 100000 in
theorem c_X1_run_8 {G : xG} {n : Nat} {Q : Outcome → xS → Prop} {x : kX} {I : xI} {R : xR} {v : kV} {th : List xTh} {mm : Nat} (hT : KT x v th) (hK : KI (I, R, th) x.N mm) {st : Nat} {fr lg : Nat → Nat} (hp : PS I 0 st fr lg) {tp : Nat → Int32} (htp : I 27 0 = tp) (h1 : 1 ≤ st) {va vb vc : Int32} (hmm : mm + 300 < 16384) {me : Nat} (hme : R 0 0 19 = some me) (hme16 : me < 16) (hn : 17 ≤ n) (hq : kOs Q x (kDoMake x.N (I, R, th) me tp fr lg st)) : xCall G mX1_run n [.ref (x.ad 0 0), .int 8, .int va, .int vb, .int vc] (kS I R x v) Q := by
  refine x_met (L0 := [(1, .ref (x.ad 0 0)), (1, .int 8), (1, .int va), (1, .int vb), (1, .int vc), xo, xo, xo, xo, xo]) (by decide +kernel) rfl ⟨Nat.le_of_ble_eq_true rfl, rfl⟩ ?_
  have hnb := hT.ks.nb
  refine x_iload_n 1 dX1_run_0 rfl rfl ?_
  refine x_tin 8 183 dX1_run_1 rfl (by decide) (by decide) rfl (by decide) ?_
  refine x_aload_n 184 dX1_run_183 rfl rfl ?_
  obtain ⟨r_, hd_⟩ : ∃ r : kQ, r = kDoMake x.N (I, R, th) me tp fr lg st := ⟨_, rfl⟩
  rw [← hd_] at hq
  refine x_callV (as := []) (rest := []) (i := 0) (n' := n - 1) 187 dX1_run_184 rfl mv_X1_552 rfl rfl (hT.ks.l0 (by omega)) (xnh rfl) (by omega) (xst (Nat.le_of_ble_eq_true rfl)) (c_X1_doMake hT hK hp htp h1 (by omega) hme hme16 (by omega) (kOsN hd_ ⟨fun h99 => ?_, ⟨?_, ?_⟩⟩))
  · skip
    exact hq.1 h99
  · skip
    intro hz w1 hU1
    change X _ _ _ _ _ _ _ _ _ _
    refine x_ireturn dX1_run_187 rfl ?_
    exact hq.2.1 hz _ hU1
  · skip
    intro hz w1 hU1
    exact hq.2.2 hz _ hU1
set_option maxHeartbeats 400000 in
set_option maxRecDepth 100000 in
theorem c_X1_run_9 {G : xG} {n : Nat} {Q : Outcome → xS → Prop} {x : kX} {I : xI} {R : xR} {v : kV} {th : List xTh} {mm : Nat} (hT : KT x v th) (hK : KI (I, R, th) x.N mm) {st : Nat} {fr lg : Nat → Nat} (hp : PS I 0 st fr lg) {tp : Nat → Int32} (htp : I 27 0 = tp) (h1 : 1 ≤ st) {va vb vc : Int32} (hmm : mm + 300 < 16384) {me : Nat} (hme : R 0 0 19 = some me) (hme16 : me < 16) (hn : 17 ≤ n) (hq : kOs Q x (kDoUnl x.N (I, R, th) me tp fr lg st)) : xCall G mX1_run n [.ref (x.ad 0 0), .int 9, .int va, .int vb, .int vc] (kS I R x v) Q := by
  refine x_met (L0 := [(1, .ref (x.ad 0 0)), (1, .int 9), (1, .int va), (1, .int vb), (1, .int vc), xo, xo, xo, xo, xo]) (by decide +kernel) rfl ⟨Nat.le_of_ble_eq_true rfl, rfl⟩ ?_
  have hnb := hT.ks.nb
  refine x_iload_n 1 dX1_run_0 rfl rfl ?_
  refine x_tin 9 188 dX1_run_1 rfl (by decide) (by decide) rfl (by decide) ?_
  refine x_aload_n 189 dX1_run_188 rfl rfl ?_
  obtain ⟨r_, hd_⟩ : ∃ r : kQ, r = kDoUnl x.N (I, R, th) me tp fr lg st := ⟨_, rfl⟩
  rw [← hd_] at hq
  refine x_callV (as := []) (rest := []) (i := 0) (n' := n - 1) 192 dX1_run_189 rfl mv_X1_555 rfl rfl (hT.ks.l0 (by omega)) (xnh rfl) (by omega) (xst (Nat.le_of_ble_eq_true rfl)) (c_X1_doUnlink hT hK hp htp h1 (by omega) hme hme16 (by omega) (kOsN hd_ ⟨fun h99 => ?_, ⟨?_, ?_⟩⟩))
  · skip
    exact hq.1 h99
  · skip
    intro hz w1 hU1
    change X _ _ _ _ _ _ _ _ _ _
    refine x_ireturn dX1_run_192 rfl ?_
    exact hq.2.1 hz _ hU1
  · skip
    intro hz w1 hU1
    exact hq.2.2 hz _ hU1
set_option maxHeartbeats 400000 in
set_option maxRecDepth 100000 in
theorem c_X1_run_10 {G : xG} {n : Nat} {Q : Outcome → xS → Prop} {x : kX} {I : xI} {R : xR} {v : kV} {th : List xTh} {mm : Nat} (hT : KT x v th) (hK : KI (I, R, th) x.N mm) {st : Nat} {fr lg : Nat → Nat} (hp : PS I 0 st fr lg) {tp : Nat → Int32} (htp : I 27 0 = tp) (h1 : 1 ≤ st) {va vb vc : Int32} (hmm : mm + 300 < 16384) {me : Nat} (hme : R 0 0 19 = some me) (hme16 : me < 16) (hn : 17 ≤ n) (hq : kOs Q x (kDoRem x.N (I, R, th) me tp fr lg st)) : xCall G mX1_run n [.ref (x.ad 0 0), .int 10, .int va, .int vb, .int vc] (kS I R x v) Q := by
  refine x_met (L0 := [(1, .ref (x.ad 0 0)), (1, .int 10), (1, .int va), (1, .int vb), (1, .int vc), xo, xo, xo, xo, xo]) (by decide +kernel) rfl ⟨Nat.le_of_ble_eq_true rfl, rfl⟩ ?_
  have hnb := hT.ks.nb
  refine x_iload_n 1 dX1_run_0 rfl rfl ?_
  refine x_tin 10 193 dX1_run_1 rfl (by decide) (by decide) rfl (by decide) ?_
  refine x_aload_n 194 dX1_run_193 rfl rfl ?_
  obtain ⟨r_, hd_⟩ : ∃ r : kQ, r = kDoRem x.N (I, R, th) me tp fr lg st := ⟨_, rfl⟩
  rw [← hd_] at hq
  refine x_callV (as := []) (rest := []) (i := 0) (n' := n - 1) 197 dX1_run_194 rfl mv_X1_558 rfl rfl (hT.ks.l0 (by omega)) (xnh rfl) (by omega) (xst (Nat.le_of_ble_eq_true rfl)) (c_X1_doRemove hT hK hp htp h1 (by omega) hme hme16 (by omega) (kOsN hd_ ⟨fun h99 => ?_, ⟨?_, ?_⟩⟩))
  · skip
    exact hq.1 h99
  · skip
    intro hz w1 hU1
    change X _ _ _ _ _ _ _ _ _ _
    refine x_ireturn dX1_run_197 rfl ?_
    exact hq.2.1 hz _ hU1
  · skip
    intro hz w1 hU1
    exact hq.2.2 hz _ hU1
set_option maxHeartbeats 400000 in
set_option maxRecDepth 100000 in
theorem c_X1_run_11 {G : xG} {n : Nat} {Q : Outcome → xS → Prop} {x : kX} {I : xI} {R : xR} {v : kV} {th : List xTh} {mm : Nat} (hT : KT x v th) (hK : KI (I, R, th) x.N mm) {st : Nat} {fr lg : Nat → Nat} (hp : PS I 0 st fr lg) {tp : Nat → Int32} (htp : I 27 0 = tp) {st2 : Nat} {fr2 lg2 : Nat → Nat} (hp2 : PS I 1 st2 fr2 lg2) (h1 : 1 ≤ st2) {va vb vc : Int32} (hmm : mm + 300 < 16384) {me : Nat} (hme : R 0 0 19 = some me) (hme16 : me < 16) (hn : 17 ≤ n) (hq : kOs Q x (kDoLink x.N (I, R, th) me tp fr lg st fr2 lg2 st2)) : xCall G mX1_run n [.ref (x.ad 0 0), .int 11, .int va, .int vb, .int vc] (kS I R x v) Q := by
  refine x_met (L0 := [(1, .ref (x.ad 0 0)), (1, .int 11), (1, .int va), (1, .int vb), (1, .int vc), xo, xo, xo, xo, xo]) (by decide +kernel) rfl ⟨Nat.le_of_ble_eq_true rfl, rfl⟩ ?_
  have hnb := hT.ks.nb
  refine x_iload_n 1 dX1_run_0 rfl rfl ?_
  refine x_tin 11 198 dX1_run_1 rfl (by decide) (by decide) rfl (by decide) ?_
  refine x_aload_n 199 dX1_run_198 rfl rfl ?_
  obtain ⟨r_, hd_⟩ : ∃ r : kQ, r = kDoLink x.N (I, R, th) me tp fr lg st fr2 lg2 st2 := ⟨_, rfl⟩
  rw [← hd_] at hq
  refine x_callV (as := []) (rest := []) (i := 0) (n' := n - 1) 202 dX1_run_199 rfl mv_X1_561 rfl rfl (hT.ks.l0 (by omega)) (xnh rfl) (by omega) (xst (Nat.le_of_ble_eq_true rfl)) (c_X1_doLink hT hK hp htp hp2 h1 (by omega) hme hme16 (by omega) (kOsN hd_ ⟨fun h99 => ?_, ⟨?_, ?_⟩⟩))
  · skip
    exact hq.1 h99
  · skip
    intro hz w1 hU1
    change X _ _ _ _ _ _ _ _ _ _
    refine x_ireturn dX1_run_202 rfl ?_
    exact hq.2.1 hz _ hU1
  · skip
    intro hz w1 hU1
    exact hq.2.2 hz _ hU1
set_option maxHeartbeats 400000 in
set_option maxRecDepth 100000 in
theorem c_X1_run_12 {G : xG} {n : Nat} {Q : Outcome → xS → Prop} {x : kX} {I : xI} {R : xR} {v : kV} {th : List xTh} {mm : Nat} (hT : KT x v th) (hK : KI (I, R, th) x.N mm) {st : Nat} {fr lg : Nat → Nat} (hp : PS I 0 st fr lg) {tp : Nat → Int32} (htp : I 27 0 = tp) {st2 : Nat} {fr2 lg2 : Nat → Nat} (hp2 : PS I 1 st2 fr2 lg2) (h1 : 1 ≤ st) (h12 : 1 ≤ st2) {va vb vc : Int32} (hmm : mm + 300 < 16384) {me : Nat} (hme : R 0 0 19 = some me) (hme16 : me < 16) (hn : 17 ≤ n) (hq : kOs Q x (kDoRen x.N (I, R, th) me tp fr lg st fr2 lg2 st2)) : xCall G mX1_run n [.ref (x.ad 0 0), .int 12, .int va, .int vb, .int vc] (kS I R x v) Q := by
  refine x_met (L0 := [(1, .ref (x.ad 0 0)), (1, .int 12), (1, .int va), (1, .int vb), (1, .int vc), xo, xo, xo, xo, xo]) (by decide +kernel) rfl ⟨Nat.le_of_ble_eq_true rfl, rfl⟩ ?_
  have hnb := hT.ks.nb
  refine x_iload_n 1 dX1_run_0 rfl rfl ?_
  refine x_tin 12 203 dX1_run_1 rfl (by decide) (by decide) rfl (by decide) ?_
  refine x_aload_n 204 dX1_run_203 rfl rfl ?_
  obtain ⟨r_, hd_⟩ : ∃ r : kQ, r = kDoRen x.N (I, R, th) me tp fr lg st fr2 lg2 st2 := ⟨_, rfl⟩
  rw [← hd_] at hq
  refine x_callV (as := []) (rest := []) (i := 0) (n' := n - 1) 207 dX1_run_204 rfl mv_X1_564 rfl rfl (hT.ks.l0 (by omega)) (xnh rfl) (by omega) (xst (Nat.le_of_ble_eq_true rfl)) (c_X1_doRename hT hK hp htp hp2 h1 h12 (by omega) hme hme16 (by omega) (kOsN hd_ ⟨fun h99 => ?_, ⟨?_, ?_⟩⟩))
  · skip
    exact hq.1 h99
  · skip
    intro hz w1 hU1
    change X _ _ _ _ _ _ _ _ _ _
    refine x_ireturn dX1_run_207 rfl ?_
    exact hq.2.1 hz _ hU1
  · skip
    intro hz w1 hU1
    exact hq.2.2 hz _ hU1
set_option maxHeartbeats 400000 in
set_option maxRecDepth 100000 in
theorem c_X1_run_13 {G : xG} {n : Nat} {Q : Outcome → xS → Prop} {x : kX} {I : xI} {R : xR} {v : kV} {th : List xTh} {mm : Nat} (hT : KT x v th) (hK : KI (I, R, th) x.N mm) {st : Nat} {fr lg : Nat → Nat} (hp : PS I 0 st fr lg) {tp : Nat → Int32} (htp : I 27 0 = tp) {va vb vc : Int32} (hmm : mm + 300 < 16384) {me : Nat} (hme : R 0 0 19 = some me) (hme16 : me < 16) (hn : 17 ≤ n) (hq : kOs Q x (kDoLook x.N (I, R, th) me tp fr lg st va)) : xCall G mX1_run n [.ref (x.ad 0 0), .int 13, .int va, .int vb, .int vc] (kS I R x v) Q := by
  refine x_met (L0 := [(1, .ref (x.ad 0 0)), (1, .int 13), (1, .int va), (1, .int vb), (1, .int vc), xo, xo, xo, xo, xo]) (by decide +kernel) rfl ⟨Nat.le_of_ble_eq_true rfl, rfl⟩ ?_
  have hnb := hT.ks.nb
  refine x_iload_n 1 dX1_run_0 rfl rfl ?_
  refine x_tin 13 208 dX1_run_1 rfl (by decide) (by decide) rfl (by decide) ?_
  refine x_aload_n 209 dX1_run_208 rfl rfl ?_
  refine x_iload_n 210 dX1_run_209 rfl rfl ?_
  obtain ⟨r_, hd_⟩ : ∃ r : kQ, r = kDoLook x.N (I, R, th) me tp fr lg st va := ⟨_, rfl⟩
  rw [← hd_] at hq
  refine x_callV (as := [.int va]) (rest := []) (i := 0) (n' := n - 1) 213 dX1_run_210 rfl mv_X1_567 rfl rfl (hT.ks.l0 (by omega)) (xnh rfl) (by omega) (xst (Nat.le_of_ble_eq_true rfl)) (c_X1_doLook hT hK hp htp (by omega) hme hme16 (by omega) (kOsN hd_ ⟨fun h99 => ?_, ⟨?_, ?_⟩⟩))
  · skip
    exact hq.1 h99
  · skip
    intro hz w1 hU1
    change X _ _ _ _ _ _ _ _ _ _
    refine x_ireturn dX1_run_213 rfl ?_
    exact hq.2.1 hz _ hU1
  · skip
    intro hz w1 hU1
    exact hq.2.2 hz _ hU1
set_option maxHeartbeats 400000 in
set_option maxRecDepth 100000 in
theorem c_X1_run_14 {G : xG} {n : Nat} {Q : Outcome → xS → Prop} {x : kX} {I : xI} {R : xR} {v : kV} {th : List xTh} {mm : Nat} (hT : KT x v th) (hK : KI (I, R, th) x.N mm) {st : Nat} {fr lg : Nat → Nat} (hp : PS I 0 st fr lg) {tp : Nat → Int32} (htp : I 27 0 = tp) {va vb vc : Int32} (hmm : mm + 300 < 16384) {me : Nat} (hme : R 0 0 19 = some me) (hme16 : me < 16) (hn : 17 ≤ n) (hq : kOs Q x (kDoList x.N (I, R, th) me tp fr lg st)) : xCall G mX1_run n [.ref (x.ad 0 0), .int 14, .int va, .int vb, .int vc] (kS I R x v) Q := by
  refine x_met (L0 := [(1, .ref (x.ad 0 0)), (1, .int 14), (1, .int va), (1, .int vb), (1, .int vc), xo, xo, xo, xo, xo]) (by decide +kernel) rfl ⟨Nat.le_of_ble_eq_true rfl, rfl⟩ ?_
  have hnb := hT.ks.nb
  refine x_iload_n 1 dX1_run_0 rfl rfl ?_
  refine x_tin 14 214 dX1_run_1 rfl (by decide) (by decide) rfl (by decide) ?_
  refine x_aload_n 215 dX1_run_214 rfl rfl ?_
  obtain ⟨r_, hd_⟩ : ∃ r : kQ, r = kDoList x.N (I, R, th) me tp fr lg st := ⟨_, rfl⟩
  rw [← hd_] at hq
  refine x_callV (as := []) (rest := []) (i := 0) (n' := n - 1) 218 dX1_run_215 rfl mv_X1_570 rfl rfl (hT.ks.l0 (by omega)) (xnh rfl) (by omega) (xst (Nat.le_of_ble_eq_true rfl)) (c_X1_doList hT hK hp htp (by omega) hme hme16 (by omega) (kOsN hd_ ⟨fun h99 => ?_, ⟨?_, ?_⟩⟩))
  · skip
    exact hq.1 h99
  · skip
    intro hz w1 hU1
    change X _ _ _ _ _ _ _ _ _ _
    refine x_ireturn dX1_run_218 rfl ?_
    exact hq.2.1 hz _ hU1
  · skip
    intro hz w1 hU1
    exact hq.2.2 hz _ hU1
set_option maxHeartbeats 400000 in
set_option maxRecDepth 100000 in
theorem c_X1_run_16 {G : xG} {n : Nat} {Q : Outcome → xS → Prop} {x : kX} {I : xI} {R : xR} {v : kV} {th : List xTh} {mm : Nat} (hT : KT x v th) (hK : KI (I, R, th) x.N mm) {va vb vc : Int32} (hmm : mm + 300 < 16384) {me : Nat} (hme : R 0 0 19 = some me) (hme16 : me < 16) (hn : 17 ≤ n) (hq : kOs Q x (kDoFork x.N (I, R, th) me)) : xCall G mX1_run n [.ref (x.ad 0 0), .int 16, .int va, .int vb, .int vc] (kS I R x v) Q := by
  refine x_met (L0 := [(1, .ref (x.ad 0 0)), (1, .int 16), (1, .int va), (1, .int vb), (1, .int vc), xo, xo, xo, xo, xo]) (by decide +kernel) rfl ⟨Nat.le_of_ble_eq_true rfl, rfl⟩ ?_
  have hnb := hT.ks.nb
  refine x_iload_n 1 dX1_run_0 rfl rfl ?_
  refine x_tin 16 257 dX1_run_1 rfl (by decide) (by decide) rfl (by decide) ?_
  refine x_aload_n 258 dX1_run_257 rfl rfl ?_
  obtain ⟨r_, hd_⟩ : ∃ r : kQ, r = kDoFork x.N (I, R, th) me := ⟨_, rfl⟩
  rw [← hd_] at hq
  refine x_callV (as := []) (rest := []) (i := 0) (n' := n - 1) 261 dX1_run_258 rfl mv_X1_576 rfl rfl (hT.ks.l0 (by omega)) (xnh rfl) (by omega) (xst (Nat.le_of_ble_eq_true rfl)) (c_X1_doFork hT hK (by omega) hme hme16 (by omega) (kOsN hd_ ⟨fun h99 => ?_, ⟨?_, ?_⟩⟩))
  · skip
    exact hq.1 h99
  · skip
    intro hz w1 hU1
    change X _ _ _ _ _ _ _ _ _ _
    refine x_ireturn dX1_run_261 rfl ?_
    exact hq.2.1 hz _ hU1
  · skip
    intro hz w1 hU1
    exact hq.2.2 hz _ hU1
set_option maxHeartbeats 400000 in
set_option maxRecDepth 100000 in
theorem c_X1_run_17 {G : xG} {n : Nat} {Q : Outcome → xS → Prop} {x : kX} {I : xI} {R : xR} {v : kV} {th : List xTh} {mm : Nat} (hT : KT x v th) (hK : KI (I, R, th) x.N mm) {va vb vc : Int32} (hmm : mm + 300 < 16384) {me : Nat} (hme : R 0 0 19 = some me) (hme16 : me < 16) (hn : 17 ≤ n) (hq : kOs Q x (kDoExit x.N (I, R, th) me va)) : xCall G mX1_run n [.ref (x.ad 0 0), .int 17, .int va, .int vb, .int vc] (kS I R x v) Q := by
  refine x_met (L0 := [(1, .ref (x.ad 0 0)), (1, .int 17), (1, .int va), (1, .int vb), (1, .int vc), xo, xo, xo, xo, xo]) (by decide +kernel) rfl ⟨Nat.le_of_ble_eq_true rfl, rfl⟩ ?_
  have hnb := hT.ks.nb
  refine x_iload_n 1 dX1_run_0 rfl rfl ?_
  refine x_tin 17 262 dX1_run_1 rfl (by decide) (by decide) rfl (by decide) ?_
  refine x_aload_n 263 dX1_run_262 rfl rfl ?_
  refine x_iload_n 264 dX1_run_263 rfl rfl ?_
  obtain ⟨r_, hd_⟩ : ∃ r : kQ, r = kDoExit x.N (I, R, th) me va := ⟨_, rfl⟩
  rw [← hd_] at hq
  refine x_callV (as := [.int va]) (rest := []) (i := 0) (n' := n - 1) 267 dX1_run_264 rfl mv_X1_579 rfl rfl (hT.ks.l0 (by omega)) (xnh rfl) (by omega) (xst (Nat.le_of_ble_eq_true rfl)) (c_X1_doExit hT hK (by omega) hme hme16 (by omega) (kOsN hd_ ⟨fun h99 => ?_, ⟨?_, ?_⟩⟩))
  · skip
    exact hq.1 h99
  · skip
    intro hz w1 hU1
    change X _ _ _ _ _ _ _ _ _ _
    refine x_ireturn dX1_run_267 rfl ?_
    exact hq.2.1 hz _ hU1
  · skip
    intro hz w1 hU1
    exact hq.2.2 hz _ hU1
set_option maxHeartbeats 400000 in
set_option maxRecDepth 100000 in
theorem c_X1_run_18 {G : xG} {n : Nat} {Q : Outcome → xS → Prop} {x : kX} {I : xI} {R : xR} {v : kV} {th : List xTh} {mm : Nat} (hT : KT x v th) (hK : KI (I, R, th) x.N mm) {va vb vc : Int32} (hmm : mm + 300 < 16384) {me : Nat} (hme : R 0 0 19 = some me) (hme16 : me < 16) (hn : 17 ≤ n) (hq : kOs Q x (kDoAwait x.N (I, R, th) me)) : xCall G mX1_run n [.ref (x.ad 0 0), .int 18, .int va, .int vb, .int vc] (kS I R x v) Q := by
  refine x_met (L0 := [(1, .ref (x.ad 0 0)), (1, .int 18), (1, .int va), (1, .int vb), (1, .int vc), xo, xo, xo, xo, xo]) (by decide +kernel) rfl ⟨Nat.le_of_ble_eq_true rfl, rfl⟩ ?_
  have hnb := hT.ks.nb
  refine x_iload_n 1 dX1_run_0 rfl rfl ?_
  refine x_tin 18 268 dX1_run_1 rfl (by decide) (by decide) rfl (by decide) ?_
  refine x_aload_n 269 dX1_run_268 rfl rfl ?_
  obtain ⟨r_, hd_⟩ : ∃ r : kQ, r = kDoAwait x.N (I, R, th) me := ⟨_, rfl⟩
  rw [← hd_] at hq
  refine x_callV (as := []) (rest := []) (i := 0) (n' := n - 1) 272 dX1_run_269 rfl mv_X1_582 rfl rfl (hT.ks.l0 (by omega)) (xnh rfl) (by omega) (xst (Nat.le_of_ble_eq_true rfl)) (c_X1_doAwait hT hK (by omega) hme hme16 (by omega) (kOsN hd_ ⟨fun h99 => ?_, ⟨?_, ?_⟩⟩))
  · skip
    exact hq.1 h99
  · skip
    intro hz w1 hU1
    change X _ _ _ _ _ _ _ _ _ _
    refine x_ireturn dX1_run_272 rfl ?_
    exact hq.2.1 hz _ hU1
  · skip
    intro hz w1 hU1
    exact hq.2.2 hz _ hU1
set_option maxHeartbeats 400000 in
set_option maxRecDepth 100000 in
theorem c_X1_run_19 {G : xG} {n : Nat} {Q : Outcome → xS → Prop} {x : kX} {I : xI} {R : xR} {v : kV} {th : List xTh} {mm : Nat} (hT : KT x v th) (hK : KI (I, R, th) x.N mm) {d : Nat} (hd16 : d < 16) {vb vc : Int32} (hmm : mm + 300 < 16384) {me : Nat} (hme : R 0 0 19 = some me) (hme16 : me < 16) (hn : 17 ≤ n) (hq : kOs Q x (kDoKill x.N (I, R, th) me d vb)) : xCall G mX1_run n [.ref (x.ad 0 0), .int 19, .int (nI d), .int vb, .int vc] (kS I R x v) Q := by
  refine x_met (L0 := [(1, .ref (x.ad 0 0)), (1, .int 19), (1, .int (nI d)), (1, .int vb), (1, .int vc), xo, xo, xo, xo, xo]) (by decide +kernel) rfl ⟨Nat.le_of_ble_eq_true rfl, rfl⟩ ?_
  have hnb := hT.ks.nb
  refine x_iload_n 1 dX1_run_0 rfl rfl ?_
  refine x_tin 19 273 dX1_run_1 rfl (by decide) (by decide) rfl (by decide) ?_
  refine x_aload_n 274 dX1_run_273 rfl rfl ?_
  refine x_iload_n 275 dX1_run_274 rfl rfl ?_
  refine x_iload_n 276 dX1_run_275 rfl rfl ?_
  obtain ⟨r_, hd_⟩ : ∃ r : kQ, r = kDoKill x.N (I, R, th) me d vb := ⟨_, rfl⟩
  rw [← hd_] at hq
  refine x_callV (as := [.int (nI d), .int vb]) (rest := []) (i := 0) (n' := n - 1) 279 dX1_run_276 rfl mv_X1_585 rfl rfl (hT.ks.l0 (by omega)) (xnh rfl) (by omega) (xst (Nat.le_of_ble_eq_true rfl)) (c_X1_doKill hT hK hd16 (by omega) hme hme16 (by omega) (kOsN hd_ ⟨fun h99 => ?_, ⟨?_, ?_⟩⟩))
  · skip
    exact hq.1 h99
  · skip
    intro hz w1 hU1
    change X _ _ _ _ _ _ _ _ _ _
    refine x_ireturn dX1_run_279 rfl ?_
    exact hq.2.1 hz _ hU1
  · skip
    intro hz w1 hU1
    exact hq.2.2 hz _ hU1
set_option maxHeartbeats 400000 in
set_option maxRecDepth 100000 in
theorem c_X1_run_21 {G : xG} {n : Nat} {Q : Outcome → xS → Prop} {x : kX} {I : xI} {R : xR} {v : kV} {th : List xTh} {mm : Nat} (hT : KT x v th) (hK : KI (I, R, th) x.N mm) {va vb vc : Int32} (hmm : mm + 300 < 16384) {me : Nat} (hme : R 0 0 19 = some me) (hme16 : me < 16) (hn : 17 ≤ n) (hq : kOs Q x (kDoBegin (I, R, th) me)) : xCall G mX1_run n [.ref (x.ad 0 0), .int 21, .int va, .int vb, .int vc] (kS I R x v) Q := by
  refine x_met (L0 := [(1, .ref (x.ad 0 0)), (1, .int 21), (1, .int va), (1, .int vb), (1, .int vc), xo, xo, xo, xo, xo]) (by decide +kernel) rfl ⟨Nat.le_of_ble_eq_true rfl, rfl⟩ ?_
  have hnb := hT.ks.nb
  refine x_iload_n 1 dX1_run_0 rfl rfl ?_
  refine x_tin 21 313 dX1_run_1 rfl (by decide) (by decide) rfl (by decide) ?_
  refine x_aload_n 314 dX1_run_313 rfl rfl ?_
  obtain ⟨r_, hd_⟩ : ∃ r : kQ, r = kDoBegin (I, R, th) me := ⟨_, rfl⟩
  rw [← hd_] at hq
  refine x_callV (as := []) (rest := []) (i := 0) (n' := n - 1) 317 dX1_run_314 rfl mv_X1_590 rfl rfl (hT.ks.l0 (by omega)) (xnh rfl) (by omega) (xst (Nat.le_of_ble_eq_true rfl)) (c_X1_doBegin hT hK (by omega) hme hme16 (by omega) (kOsN hd_ ⟨fun h99 => ?_, ⟨?_, ?_⟩⟩))
  · skip
    exact hq.1 h99
  · skip
    intro hz w1 hU1
    change X _ _ _ _ _ _ _ _ _ _
    refine x_ireturn dX1_run_317 rfl ?_
    exact hq.2.1 hz _ hU1
  · skip
    intro hz w1 hU1
    exact hq.2.2 hz _ hU1
set_option maxHeartbeats 400000 in
set_option maxRecDepth 100000 in
theorem c_X1_run_22 {G : xG} {n : Nat} {Q : Outcome → xS → Prop} {x : kX} {I : xI} {R : xR} {v : kV} {th : List xTh} {mm : Nat} (hT : KT x v th) (hK : KI (I, R, th) x.N mm) {D Lg : Nat} {va vb vc : Int32} (hmm : mm + 300 < 16384) {me : Nat} (hme : R 0 0 19 = some me) (hme16 : me < 16) (hn : 17 ≤ n) (hq : kOs Q x (kDoEnd x.N x.B D Lg (I, R, th) me)) : xCall G mX1_run n [.ref (x.ad 0 0), .int 22, .int va, .int vb, .int vc] (kS I R x v) Q := by
  refine x_met (L0 := [(1, .ref (x.ad 0 0)), (1, .int 22), (1, .int va), (1, .int vb), (1, .int vc), xo, xo, xo, xo, xo]) (by decide +kernel) rfl ⟨Nat.le_of_ble_eq_true rfl, rfl⟩ ?_
  have hnb := hT.ks.nb
  refine x_iload_n 1 dX1_run_0 rfl rfl ?_
  refine x_tin 22 318 dX1_run_1 rfl (by decide) (by decide) rfl (by decide) ?_
  refine x_aload_n 319 dX1_run_318 rfl rfl ?_
  obtain ⟨r_, hd_⟩ : ∃ r : kQ, r = kDoEnd x.N x.B D Lg (I, R, th) me := ⟨_, rfl⟩
  rw [← hd_] at hq
  refine x_callV (as := []) (rest := []) (i := 0) (n' := n - 1) 322 dX1_run_319 rfl mv_X1_593 rfl rfl (hT.ks.l0 (by omega)) (xnh rfl) (by omega) (xst (Nat.le_of_ble_eq_true rfl)) (c_X1_doEnd (D := D) (Lg := Lg) hT hK (by omega) hme hme16 (by omega) (kOsN hd_ ⟨fun h99 => ?_, ⟨?_, ?_⟩⟩))
  · skip
    exact hq.1 h99
  · skip
    intro hz w1 hU1
    change X _ _ _ _ _ _ _ _ _ _
    refine x_ireturn dX1_run_322 rfl ?_
    exact hq.2.1 hz _ hU1
  · skip
    intro hz w1 hU1
    exact hq.2.2 hz _ hU1
set_option maxHeartbeats 400000 in
set_option maxRecDepth 100000 in
theorem c_X1_run_6 {G : xG} {n : Nat} {Q : Outcome → xS → Prop} {x : kX} {I : xI} {R : xR} {v : kV} {th : List xTh} {mm : Nat} (hT : KT x v th) (hK : KI (I, R, th) x.N mm) {d : Nat} (hd8 : d < 8) {vb vc : Int32} (hmm : mm + 300 < 16384) {me : Nat} (hme : R 0 0 19 = some me) (hme16 : me < 16) (hn : 17 ≤ n) (hq : kOs Q x (kTwin (I, R, th) me d)) : xCall G mX1_run n [.ref (x.ad 0 0), .int 6, .int (nI d), .int vb, .int vc] (kS I R x v) Q := by
  refine x_met (L0 := [(1, .ref (x.ad 0 0)), (1, .int 6), (1, .int (nI d)), (1, .int vb), (1, .int vc), xo, xo, xo, xo, xo]) (by decide +kernel) rfl ⟨Nat.le_of_ble_eq_true rfl, rfl⟩ ?_
  have hnb := hT.ks.nb
  unfold kTwin at hq
  refine x_iload_n 1 dX1_run_0 rfl rfl ?_
  refine x_tin 6 149 dX1_run_1 rfl (by decide) (by decide) rfl (by decide) ?_
  refine x_aload_n 150 dX1_run_149 rfl rfl ?_
  refine x_iload_n 151 dX1_run_150 rfl rfl ?_
  refine x_callV (as := [.int (nI d)]) (rest := []) (i := 0) (n' := n - 1) 154 dX1_run_151 rfl mv_X1_544 rfl rfl (hT.ks.l0 (by omega)) (xnh rfl) (by omega) (xst (Nat.le_of_ble_eq_true rfl)) (c_X1_has (I := kI I v.t) (R := kR R v.u) hT.ks ((kSx.rfl (s := (I, R, th))).2 0 0 19 rfl |>.trans hme) hme16 (by omega) (by omega) ?_ ?_)
  · skip
    intro o_ ho_
    have ho_ : R 46 me d = some o_ := ho_
    try dsimp only at hq
    rw [ho_] at hq
    try dsimp only at hq
    have ho3 := hK.rf.row ho_
    change X _ _ _ _ _ _ _ _ _ _
    refine x_astore 156 [(1, .ref (x.ad 0 0)), (1, .int 6), (1, .int (nI d)), (1, .int vb), (1, .int vc), (1, .ref (x.ad 7 o_)), xo, xo, xo, xo] dX1_run_154 rfl (by decide) rfl ?_
    refine x_aload_n 157 dX1_run_156 rfl rfl ?_
    refine x_iconst (v := 1) 158 dX1_run_157 rfl rfl ?_
    refine x_callV (as := [.int (nI 1)]) (rest := []) (i := 0) (n' := n - 1) 161 dX1_run_158 rfl mv_X1_546 rfl rfl (hT.ks.l0 (by omega)) (xnh rfl) (by omega) (xst (Nat.le_of_ble_eq_true rfl)) (c_X1_freeDescriptor (I := kI I v.t) (R := kR R v.u) (m := 1) hT.ks ((kSx.rfl (s := (I, R, th))).2 0 0 19 rfl |>.trans hme) hme16 (by omega) (by omega) ?_ ?_)
    · skip
      intro hfd
      have hfd : ¬ 8 - cntN (fun k => ¬ (I, R, th).2.1 46 me k = none) 8 < 1 := hfd
      rw [if_neg hfd] at hq
      have hdf := kFdN_s (s := (I, R, th)) (by omega) hfd
      have hdf2 := hdf.2
      change X _ _ _ _ _ _ _ _ _ _
      refine x_vi (w := nI (kFdN (I, R, th) me)) hdf.1 ?_
      refine x_istore 163 [(1, .ref (x.ad 0 0)), (1, .int 6), (1, .int (nI d)), (1, .int vb), (1, .int vc), (1, .ref (x.ad 7 o_)), (1, .int (nI (kFdN (I, R, th) me))), xo, xo, xo] dX1_run_161 rfl (by decide) rfl ?_
      refine x_aload_n 164 dX1_run_163 rfl rfl ?_
      refine x_gets 167 dX1_run_164 rfl fl_X1_371 (hT.ks.l0 (by omega)) ((kSx.rfl (s := (I, R, th))).2 0 0 19 rfl |>.trans hme) ?_
      refine x_getz 170 dX1_run_167 rfl fl_X1_246 (hT.ks.l9 (by omega)) (hT.ks.z9_4 (by omega)) ?_
      refine x_iload 172 dX1_run_170 rfl rfl ?_
      refine x_aload 174 dX1_run_172 rfl rfl ?_
      refine x_asR ?_
      refine x_astr 175 dX1_run_174 rfl ar_46 (Or.inl ⟨by decide, _, _, _, rfl, rfl⟩) (by decide) (hT.ks.l46 (by omega)) (xb (hT.ks.n46 (by omega)) (by omega) (by omega)) (fun _ h => by cases h; exact (hT.ks.l7 ho3)) ?_
      refine k_nmC (v := v) (kR_xu (c := 46) rfl) fun R1 hR1 => ?_
      refine x_iload 177 dX1_run_175 rfl rfl ?_
      refine x_ireturn dX1_run_177 rfl ?_
      rw [hR1]
      exact hq.ret hT
    · skip
      intro hfd
      have hfd : 8 - cntN (fun k => ¬ (I, R, th).2.1 46 me k = none) 8 < 1 := hfd
      rw [if_pos hfd] at hq
      rw [kI_xu (c := 3) rfl]
      exact hq.thr (by decide) hT
  · skip
    intro ho_
    have ho_ : R 46 me d = none := ho_
    try dsimp only at hq
    rw [ho_] at hq
    try dsimp only at hq
    rw [kI_xu (c := 3) rfl]
    exact hq.thr (by decide) hT
set_option maxHeartbeats 400000 in
set_option maxRecDepth 100000 in
theorem c_X1_run_15 {G : xG} {n : Nat} {Q : Outcome → xS → Prop} {x : kX} {I : xI} {R : xR} {v : kV} {th : List xTh} {mm : Nat} (hT : KT x v th) (hK : KI (I, R, th) x.N mm) {st : Nat} {fr lg : Nat → Nat} (hp : PS I 0 st fr lg) {tp : Nat → Int32} (htp : I 27 0 = tp) {va vb vc : Int32} (hmm : mm + 300 < 16384) {me : Nat} (hme : R 0 0 19 = some me) (hme16 : me < 16) (hn : 17 ≤ n) (hq : kOs Q x (kGo x.N (I, R, th) me tp fr lg st)) : xCall G mX1_run n [.ref (x.ad 0 0), .int 15, .int va, .int vb, .int vc] (kS I R x v) Q := by
  refine x_met (L0 := [(1, .ref (x.ad 0 0)), (1, .int 15), (1, .int va), (1, .int vb), (1, .int vc), xo, xo, xo, xo, xo]) (by decide +kernel) rfl ⟨Nat.le_of_ble_eq_true rfl, rfl⟩ ?_
  have hnb := hT.ks.nb
  unfold kGo at hq
  refine x_iload_n 1 dX1_run_0 rfl rfl ?_
  refine x_tin 15 219 dX1_run_1 rfl (by decide) (by decide) rfl (by decide) ?_
  have hp12 := hp.2.1
  refine x_aload_n 220 dX1_run_219 rfl rfl ?_
  refine x_getz 223 dX1_run_220 rfl fl_X1_76 (hT.ks.l0 (by omega)) (hT.ks.z0_23 (by omega)) ?_
  try unfold kFnd at hq
  obtain ⟨hw_1, hq⟩ := hq.asB
  have hwk_1 := kWk_some hw_1
  have hwN_1 := hK.rf.wk hwk_1
  obtain ⟨r_1, hd1⟩ : ∃ r : kO × Nat, r = kWalk x.N (I, R, th) me tp fr lg (kBeg ((I, R, th)).1 0 (kWk (I, R, th) me)) st := ⟨_, rfl⟩
  rw [← hd1] at hq
  have hKS_1 := KI.walk (me := me) (tp := tp) (fr := fr) (lg := lg) hK (d := (kBeg ((I, R, th)).1 0 (kWk (I, R, th) me))) (kBeg_lt hwN_1) (by omega) st
  rw [← hd1] at hKS_1
  obtain ⟨hKa_1, hSa_1, hdN_1⟩ := hKS_1
  have hK_1 := hKa_1.le (m' := mm + 12) (by omega)
  have hS_1 := (kSx.rfl (s := (I, R, th))).trans hSa_1
  refine x_callV (as := []) (rest := []) (i := 0) (n' := n - 1) 226 dX1_run_223 rfl mv_X1_573 rfl rfl (hT.ks.l4 (by omega)) (xnh rfl) (by omega) (xst (Nat.le_of_ble_eq_true rfl)) (c_X5_find (i := 0) (fr := fr) (lg := lg) hT hK (by omega) (hp.fx (kSx.rfl (s := (I, R, th))).1) (tp_fx htp (kSx.rfl (s := (I, R, th))).1) (by omega) ((kSx.rfl (s := (I, R, th))).2 0 0 19 rfl |>.trans hme) hme16 hwk_1 hwN_1 (by omega) (kOutP hd1 ⟨?_, ?_⟩))
  · skip
    intro hz1 w1 hU1
    change X _ _ _ _ _ _ _ _ _ _
    rw [kB_ok hz1] at hq
    refine x_astore 228 [(1, .ref (x.ad 0 0)), (1, .int 15), (1, .int va), (1, .int vb), (1, .int vc), xo, xo, (1, .ref (x.ad 6 r_1.2)), xo, xo] dX1_run_226 rfl (by decide) rfl ?_
    refine x_aload 230 dX1_run_228 rfl rfl ?_
    refine x_callV (as := []) (rest := []) (i := r_1.2) (n' := n - 1) 233 dX1_run_230 rfl mv_X1_403 rfl rfl (hU1.ks.l6 (by omega)) (xnh rfl) (by omega) (xst (Nat.le_of_ble_eq_true rfl)) (c_X7_isDirectory hU1.ks (by omega) (by omega) ?_)
    change X _ _ _ _ _ _ _ _ _ _
    refine x_vi (w := b2i (iDir r_1.1.2.1 r_1.2)) rfl ?_
    refine x_if_ne 246 236 dX1_run_233 (by decide) rfl (fun c233 => ?_) (fun c233 => ?_)
    · skip
      have c233 : iDir r_1.1.2.1 r_1.2 := b2i_n0.mp c233
      rw [cif_t c233] at hq
      refine x_aload_n 247 dX1_run_246 rfl rfl ?_
      refine x_gets 250 dX1_run_247 rfl fl_X1_371 (hU1.ks.l0 (by omega)) ((hS_1).2 0 0 19 rfl |>.trans hme) ?_
      refine x_aload 252 dX1_run_250 rfl rfl ?_
      refine x_asR ?_
      refine x_putr 255 dX1_run_252 rfl fl_X1_194 (Or.inl ⟨_, rfl⟩) (hU1.ks.l9 (by omega)) (fun _ h => by cases h; exact (hU1.ks.l6 (by omega))) ?_
      refine k_nmC (v := w1) (kR_xu (c := 9) rfl) fun R1 hR1 => ?_
      refine x_iconst (v := 0) 256 dX1_run_255 rfl rfl ?_
      refine x_ireturn dX1_run_256 rfl ?_
      rw [hR1]
      exact hq.ret hU1
    · skip
      have c233 : ¬ (iDir r_1.1.2.1 r_1.2) := b2i_0.mp c233
      rw [cif_f c233] at hq
      refine x_aload_n 237 dX1_run_236 rfl rfl ?_
      refine x_getz 240 dX1_run_237 rfl fl_X1_53 (hU1.ks.l0 (by omega)) (hU1.ks.z0_10 (by omega)) ?_
      refine x_bipush (v := -4) 242 dX1_run_240 rfl rfl ?_
      refine x_callV (as := [.int (-4)]) (rest := []) (i := 0) (n' := n - 1) 245 dX1_run_242 rfl mv_X1_364 rfl rfl (hU1.ks.l3 (by omega)) (xnh rfl) (by omega) (xst (Nat.le_of_ble_eq_true rfl)) (c_X4_by hU1.ks (by omega) ?_)
      change X _ _ _ _ _ _ _ _ _ _
      refine k_nmA (v := w1) (A1 := (xu r_1.1.2.1 3 0 0 ((-4)))) (by (repeat (first | rw [kI_xu] | rw [kI_xur] | rw [kI_xfil])) <;> rfl) fun I1 hI1 => ?_
      refine x_athrow dX1_run_245 (xnh rfl) ?_
      rw [hI1]
      exact hq.thr (by decide) hU1
  · skip
    intro hz1 w1 hU1
    rw [kB_no hz1] at hq
    exact hq.no hz1 hU1
set_option maxHeartbeats 400000 in
set_option maxRecDepth 100000 in
theorem c_X1_run_20 {G : xG} {n : Nat} {Q : Outcome → xS → Prop} {x : kX} {I : xI} {R : xR} {v : kV} {th : List xTh} {mm : Nat} (hT : KT x v th) (hK : KI (I, R, th) x.N mm) {va vb vc : Int32} (hmm : mm + 300 < 16384) {me : Nat} (hme : R 0 0 19 = some me) (hme16 : me < 16) (hn : 17 ≤ n) (hq : kOs Q x (kTakeS x.N (I, R, th) me)) : xCall G mX1_run n [.ref (x.ad 0 0), .int 20, .int va, .int vb, .int vc] (kS I R x v) Q := by
  refine x_met (L0 := [(1, .ref (x.ad 0 0)), (1, .int 20), (1, .int va), (1, .int vb), (1, .int vc), xo, xo, xo, xo, xo]) (by decide +kernel) rfl ⟨Nat.le_of_ble_eq_true rfl, rfl⟩ ?_
  have hnb := hT.ks.nb
  unfold kTakeS at hq
  refine x_iload_n 1 dX1_run_0 rfl rfl ?_
  refine x_tin 20 280 dX1_run_1 rfl (by decide) (by decide) rfl (by decide) ?_
  refine x_aload_n 281 dX1_run_280 rfl rfl ?_
  refine x_bipush (v := 8) 283 dX1_run_281 rfl rfl ?_
  refine x_aload_n 284 dX1_run_283 rfl rfl ?_
  refine x_gets 287 dX1_run_284 rfl fl_X1_371 (hT.ks.l0 (by omega)) ((kSx.rfl (s := (I, R, th))).2 0 0 19 rfl |>.trans hme) ?_
  refine x_geti 290 dX1_run_287 rfl fl_X1_346 (hT.ks.l9 (by omega)) ?_
  refine x_vi (w := I 9 me 0) rfl ?_
  refine x_vi (w := nI me) (hK.nm.2 me hme16) ?_
  obtain ⟨r_1, hd1⟩ : ∃ r : kO, r = kAccess x.N (I, R, th) me 8 (nI me) 0 0 1 := ⟨_, rfl⟩
  rw [← hd1] at hq
  have hK_1 : KI r_1.2 x.N (mm + 1) := by rw [hd1]; exact hK.access (hoaN (g := 8) (by omega) (kOf8 (by omega)))
  have hS_1 : kSx (I, R, th) r_1.2 := (kSx.rfl (s := (I, R, th))).trans (by rw [hd1]; exact sx_access)
  refine x_callV (as := [.int 8, .int (nI me)]) (rest := []) (i := 0) (n' := n - 1) 293 dX1_run_290 rfl mv_X1_588 rfl rfl (hT.ks.l0 (by omega)) (xnh rfl) (by omega) (xst (Nat.le_of_ble_eq_true rfl)) (c_X1_writes (g := 8) (oa := nI me) hT hK (hoaN (g := 8) (by omega) (kOf8 (by omega))) (by omega) ((kSx.rfl (s := (I, R, th))).2 0 0 19 rfl |>.trans hme) hme16 (by omega) (kOutN hd1 ⟨?_, ?_⟩))
  · skip
    intro hz1 w1 hU1
    change X _ _ _ _ _ _ _ _ _ _
    rw [kU_ok hz1] at hq
    refine x_aload_n 294 dX1_run_293 rfl rfl ?_
    refine x_gets 297 dX1_run_294 rfl fl_X1_371 (hU1.ks.l0 (by omega)) ((hS_1).2 0 0 19 rfl |>.trans hme) ?_
    refine x_geti 300 dX1_run_297 rfl fl_X1_319 (hU1.ks.l9 (by omega)) ?_
    refine x_vi (w := r_1.2.1 9 me 6) rfl ?_
    refine x_nmi fun x1 hx1 => ?_
    refine x_istore 302 [(1, .ref (x.ad 0 0)), (1, .int 20), (1, .int va), (1, .int vb), (1, .int vc), xo, xo, xo, (1, .int x1), xo] dX1_run_300 rfl (by decide) rfl ?_
    refine x_aload_n 303 dX1_run_302 rfl rfl ?_
    refine x_gets 306 dX1_run_303 rfl fl_X1_371 (hU1.ks.l0 (by omega)) ((hS_1).2 0 0 19 rfl |>.trans hme) ?_
    refine x_iconst (v := 0) 307 dX1_run_306 rfl rfl ?_
    refine x_puti 310 dX1_run_307 rfl fl_X1_319 rfl rfl (hU1.ks.l9 (by omega)) ?_
    refine k_nmA (v := w1) (kI_xu (c := 9) rfl) fun I1 hI1 => ?_
    refine x_iload 312 dX1_run_310 rfl rfl ?_
    refine x_ireturn dX1_run_312 rfl ?_
    rw [hI1, hx1]
    exact hq.ret3 hU1
  · skip
    intro hz1 w1 hU1
    rw [kU_no hz1] at hq
    exact hq.no hz1 hU1
set_option maxHeartbeats 400000 in
set_option maxRecDepth 100000 in
theorem c_X1_run_23 {G : xG} {n : Nat} {Q : Outcome → xS → Prop} {x : kX} {I : xI} {R : xR} {v : kV} {th : List xTh} {mm : Nat} (hT : KT x v th) (hK : KI (I, R, th) x.N mm) {va vb vc : Int32} (hmm : mm + 300 < 16384) {me : Nat} (hme : R 0 0 19 = some me) (hme16 : me < 16) (hn : 17 ≤ n) (hq : kOs Q x (kXab x.N (I, R, th) me)) : xCall G mX1_run n [.ref (x.ad 0 0), .int 23, .int va, .int vb, .int vc] (kS I R x v) Q := by
  refine x_met (L0 := [(1, .ref (x.ad 0 0)), (1, .int 23), (1, .int va), (1, .int vb), (1, .int vc), xo, xo, xo, xo, xo]) (by decide +kernel) rfl ⟨Nat.le_of_ble_eq_true rfl, rfl⟩ ?_
  have hnb := hT.ks.nb
  unfold kXab at hq
  refine x_iload_n 1 dX1_run_0 rfl rfl ?_
  refine x_vi (w := nI 23) rfl ?_
  refine x_tout 323 dX1_run_1 (by decide) (xtn (by decide) (by decide)) (by decide) ?_
  refine x_aload_n 324 dX1_run_323 rfl rfl ?_
  refine x_gets 327 dX1_run_324 rfl fl_X1_371 (hT.ks.l0 (by omega)) ((kSx.rfl (s := (I, R, th))).2 0 0 19 rfl |>.trans hme) ?_
  refine x_callV (as := []) (rest := []) (i := me) (n' := n - 1) 330 dX1_run_327 rfl mv_X1_231 rfl rfl (hT.ks.l9 (by omega)) (xnh rfl) (by omega) (xst (Nat.le_of_ble_eq_true rfl)) (c_X10_hasGroup hT.ks (by omega) (by omega) ?_)
  change X _ _ _ _ _ _ _ _ _ _
  refine x_vi (w := b2i (pGrp I me)) rfl ?_
  refine x_if_ne 343 333 dX1_run_330 (by decide) rfl (fun c330 => ?_) (fun c330 => ?_)
  · skip
    have c330 : pGrp I me := b2i_n0.mp c330
    rw [cif_t (show pGrp (I, R, th).1 me from c330)] at hq
    refine x_aload_n 344 dX1_run_343 rfl rfl ?_
    refine x_gets 347 dX1_run_344 rfl fl_X1_371 (hT.ks.l0 (by omega)) ((kSx.rfl (s := (I, R, th))).2 0 0 19 rfl |>.trans hme) ?_
    refine x_geti 350 dX1_run_347 rfl fl_X1_596 (hT.ks.l9 (by omega)) ?_
    refine x_vi (w := I 9 me 8) rfl ?_
    refine x_nmi fun x1 hx1 => ?_
    refine x_istore 352 [(1, .ref (x.ad 0 0)), (1, .int 23), (1, .int va), (1, .int vb), (1, .int vc), xo, xo, xo, xo, (1, .int x1)] dX1_run_350 rfl (by decide) rfl ?_
    refine x_aload_n 353 dX1_run_352 rfl rfl ?_
    refine x_aload_n 354 dX1_run_353 rfl rfl ?_
    refine x_gets 357 dX1_run_354 rfl fl_X1_371 (hT.ks.l0 (by omega)) ((kSx.rfl (s := (I, R, th))).2 0 0 19 rfl |>.trans hme) ?_
    obtain ⟨q_, hqd⟩ : ∃ q : kK, q = kAbort x.N (I, R, th) me := ⟨_, rfl⟩
    rw [← hqd] at hq
    have hKq : KI q_ x.N mm := by rw [hqd]; exact hK.abort
    have hSq : kSx (I, R, th) q_ := (kSx.rfl (s := (I, R, th))).trans (by rw [hqd]; exact sx_abort)
    refine x_callV (as := [.ref (x.ad 9 me)]) (rest := []) (i := 0) (n' := n - 1) 360 dX1_run_357 rfl mv_X1_353 rfl rfl (hT.ks.l0 (by omega)) (xnh rfl) (by omega) (xst (Nat.le_of_ble_eq_true rfl)) (c_X1_abort (p := me) hT hK (by omega) (by omega) (kAbN hqd ?_))
    · skip
      intro wq hUq
      change X _ _ _ _ _ _ _ _ _ _
      refine x_iload 362 dX1_run_360 rfl rfl ?_
      refine x_ireturn dX1_run_362 rfl ?_
      rw [hx1]
      exact hq.ret hUq
  · skip
    have c330 : ¬ (pGrp I me) := b2i_0.mp c330
    rw [cif_f (show ¬ pGrp (I, R, th).1 me from c330)] at hq
    refine x_aload_n 334 dX1_run_333 rfl rfl ?_
    refine x_getz 337 dX1_run_334 rfl fl_X1_53 (hT.ks.l0 (by omega)) (hT.ks.z0_10 (by omega)) ?_
    refine x_bipush (v := -5) 339 dX1_run_337 rfl rfl ?_
    refine x_callV (as := [.int (-5)]) (rest := []) (i := 0) (n' := n - 1) 342 dX1_run_339 rfl mv_X1_364 rfl rfl (hT.ks.l3 (by omega)) (xnh rfl) (by omega) (xst (Nat.le_of_ble_eq_true rfl)) (c_X4_by hT.ks (by omega) ?_)
    change X _ _ _ _ _ _ _ _ _ _
    refine k_nmA (v := v) (A1 := (xu I 3 0 0 ((-5)))) (by (repeat (first | rw [kI_xu] | rw [kI_xur] | rw [kI_xfil])) <;> rfl) fun I1 hI1 => ?_
    refine x_athrow dX1_run_342 (xnh rfl) ?_
    rw [hI1]
    exact hq.thr (by decide) hT
