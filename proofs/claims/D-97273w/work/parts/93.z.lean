/-! THE LAW's cases -/
set_option maxRecDepth 100000
theorem gl_wid {γ : GG} {R : Room} {K : Option Value → Mem → Prop} {cells slots c' s' pc : Nat} {lc : List (Option Value)} {st : List Value} {μ : Mem} (h1 : cells ≤ c') (h2 : slots ≤ s') (kk : GL γ R K c' s' pc lc st μ) : GL γ R K cells slots pc lc st μ := fun p l e s m args below meth c D b base H locs ls X P S L => W.widen h1 h2 (kk p l e s m args below meth c D b base H locs ls X P S L)
abbrev gL_law : GG := ("LostQuestionsLaw", cL_law, 4, some .boolean, "law", [])
/-- between two turns of the law: the component is as the model is -/
def LI (len : Nat) (f : Nat → Int32) (μ : Mem) : Prop := ∃ (u : Nat) (po : Nat → Option MC) (x : XY) (y : MY) (τ : Nat → Nat) (n m t : Nat), μ = mX (u, (len, f), mC y, po) x ∧ RV (u, (len, f), mC y, po) τ x y n m t
section LAWc
variable {L len p c0 s0 cc ss u : Nat} {f : Nat → Int32} {po : Nat → Option MC} {x : XY} {y : MY} {τ : Nat → Nat} {n m t : Nat} {K : Option Value → Mem → Prop}
theorem lg_self (a : Int64) : lg_cmp a a = 0 := by
  unfold lg_cmp
  simp
theorem RV_h0 {o : OX} (h : Int64) (hV : RV o τ x y n m t) : RV o τ (tJ x 29 h) y n m t := ⟨hV.h33, hV.rl, hV.lb, hV.row, hV.text, hV.kept, hV.vis⟩
theorem LI.mk {fm : List MC} {y' : MY} (h : RV (u, (len, f), fm, po) τ x y' n m t) : LI len f (mM (u, (len, f), xC x, po) y') := ⟨u, po, x, y', τ, n, m, t, rfl, h.tr h.h33 (fun _ _ _ q => q)⟩
theorem lc_row (hV : RV (u, (len, f), mC y, po) τ x y n m t) (hp : p + 6 ≤ len) (hl : len ≤ 384) (hc : cc + 7 ≤ c0) (hs : ss + 1000 ≤ s0) (kk : ∀ μ, LI len f μ → GL gL_law (rm (L + 40) c0 s0) K (cc + 7) (ss + 1000) 1407 [some (.ref 0), some (.ref 1), some (.ref 18), some (.int (nI p))] [] μ) : GL gL_law (rm (L + 40) c0 s0) K cc ss 240 [some (.ref 0), some (.ref 1), some (.ref 18), some (.int (nI p))] [] (mX (u, (len, f), mC y, po) x) := by
  refine gl_aload_n dL_law_240 rfl ?_
  refine gl_aload_n dL_law_241 rfl ?_
  refine gl_iload_n dL_law_242 rfl ?_
  refine gl_iconst (v := nI 1) dL_law_243 (by decide) ?_
  refine gl_iadd dL_law_244 ?_
  refine gl_sld (j := p + 1) dL_law_245 (by rw [nI_add]) (show p + 1 < len by omega) (show len < 2147483648 by omega) ?_
  refine gl_aload_n dL_law_246 rfl ?_
  refine gl_iload_n dL_law_247 rfl ?_
  refine gl_iconst (v := nI 2) dL_law_248 (by decide) ?_
  refine gl_iadd dL_law_249 ?_
  refine gl_sld (j := p + 2) dL_law_250 (by rw [nI_add]) (show p + 2 < len by omega) (show len < 2147483648 by omega) ?_
  refine gl_callVW (x_row L hV (f (p + 1)) (f (p + 2))) dL_law_251 q205 q206 q207 q74 q208 (by decide) hX0_row rfl (rfl : vwCl[0]? = some (RX0, TX0, 30)) rfl rfl (rmOk (by omega) rfl) ⟨by first | exact Nat.le_refl _ | exact Nat.zero_le _ | decide | (dsimp only [rm]; omega), by first | exact Nat.le_refl _ | exact Nat.zero_le _ | decide | (dsimp only [rm]; omega)⟩ ?_
  rintro _ _ ⟨rfl, ⟨u', sc', fm', po'⟩, x', τ', n', m', t', rfl, ⟨hs', hm'⟩, hV'⟩
  have hs' : sc' = (len, f) := hs'
  have hm' : fm' = mC y := hm'
  subst hs'
  subst hm'
  refine gl_mem (μ1 := mM (u', (len, f), xC x', po') y) rfl ?_
  refine gl_aload_n dL_law_254 rfl ?_
  refine gl_aload_n dL_law_255 rfl ?_
  refine gl_iload_n dL_law_256 rfl ?_
  refine gl_iconst (v := nI 1) dL_law_257 (by decide) ?_
  refine gl_iadd dL_law_258 ?_
  refine gl_sld (j := p + 1) dL_law_259 (by rw [nI_add]) (show p + 1 < len by omega) (show len < 2147483648 by omega) ?_
  refine gl_aload_n dL_law_260 rfl ?_
  refine gl_iload_n dL_law_261 rfl ?_
  refine gl_iconst (v := nI 2) dL_law_262 (by decide) ?_
  refine gl_iadd dL_law_263 ?_
  refine gl_sld (j := p + 2) dL_law_264 (by rw [nI_add]) (show p + 2 < len by omega) (show len < 2147483648 by omega) ?_
  refine gl_callV (m_row L (u', (len, f), xC x', po') y (f (p + 1)) (f (p + 2))) dL_law_265 q1085 q1086 q1087 q75 q1088 rfl hX1_row rfl (rfl : vwCl[1]? = some (RX1, TX1, 21)) rfl rfl (rmOk (by omega) rfl) ⟨by first | exact Nat.le_refl _ | exact Nat.zero_le _ | decide | (dsimp only [rm]; omega), by first | exact Nat.le_refl _ | exact Nat.zero_le _ | decide | (dsimp only [rm]; omega)⟩ (rt1 ?_)
  exact gl_icmp_eq (tgt := 1407) dL_law_268 (by decide) (fun _ => gl_wid (by omega) (by omega) (kk _ (LI.mk hV'))) (fun h => absurd rfl h)
theorem lc_lay (hV : RV (u, (len, f), mC y, po) τ x y n m t) (hp : p + 6 ≤ len) (hl : len ≤ 384) (hc : cc + 7 ≤ c0) (hs : ss + 1000 ≤ s0) (kk : ∀ μ, LI len f μ → GL gL_law (rm (L + 40) c0 s0) K (cc + 7) (ss + 1000) 1407 [some (.ref 0), some (.ref 1), some (.ref 18), some (.int (nI p))] [] μ) : GL gL_law (rm (L + 40) c0 s0) K cc ss 273 [some (.ref 0), some (.ref 1), some (.ref 18), some (.int (nI p))] [] (mX (u, (len, f), mC y, po) x) := by
  refine gl_aload_n dL_law_273 rfl ?_
  refine gl_aload_n dL_law_274 rfl ?_
  refine gl_iload_n dL_law_275 rfl ?_
  refine gl_iconst (v := nI 1) dL_law_276 (by decide) ?_
  refine gl_iadd dL_law_277 ?_
  refine gl_sld (j := p + 1) dL_law_278 (by rw [nI_add]) (show p + 1 < len by omega) (show len < 2147483648 by omega) ?_
  refine gl_aload_n dL_law_279 rfl ?_
  refine gl_iload_n dL_law_280 rfl ?_
  refine gl_iconst (v := nI 2) dL_law_281 (by decide) ?_
  refine gl_iadd dL_law_282 ?_
  refine gl_sld (j := p + 2) dL_law_283 (by rw [nI_add]) (show p + 2 < len by omega) (show len < 2147483648 by omega) ?_
  refine gl_aload_n dL_law_284 rfl ?_
  refine gl_iload_n dL_law_285 rfl ?_
  refine gl_iconst (v := nI 3) dL_law_286 (by decide) ?_
  refine gl_iadd dL_law_287 ?_
  refine gl_sld (j := p + 3) dL_law_288 (by rw [nI_add]) (show p + 3 < len by omega) (show len < 2147483648 by omega) ?_
  refine gl_callV (x_lay L hV (f (p + 1)) (f (p + 2)) (f (p + 3))) dL_law_289 q305 q306 q307 q74 q308 rfl hX0_lay rfl (rfl : vwCl[0]? = some (RX0, TX0, 30)) rfl rfl (rmOk (by omega) rfl) ⟨by first | exact Nat.le_refl _ | exact Nat.zero_le _ | decide | (dsimp only [rm]; omega), by first | exact Nat.le_refl _ | exact Nat.zero_le _ | decide | (dsimp only [rm]; omega)⟩ ?_
  rintro _ _ ⟨rfl, ⟨u', sc', fm', po'⟩, x', τ', n', m', t', rfl, ⟨hs', hm'⟩, hV'⟩
  have hs' : sc' = (len, f) := hs'
  have hm' : fm' = mC y := hm'
  subst hs'
  subst hm'
  refine gl_mem (μ1 := mM (u', (len, f), xC x', po') y) rfl ?_
  refine gl_aload_n dL_law_292 rfl ?_
  refine gl_aload_n dL_law_293 rfl ?_
  refine gl_iload_n dL_law_294 rfl ?_
  refine gl_iconst (v := nI 1) dL_law_295 (by decide) ?_
  refine gl_iadd dL_law_296 ?_
  refine gl_sld (j := p + 1) dL_law_297 (by rw [nI_add]) (show p + 1 < len by omega) (show len < 2147483648 by omega) ?_
  refine gl_aload_n dL_law_298 rfl ?_
  refine gl_iload_n dL_law_299 rfl ?_
  refine gl_iconst (v := nI 2) dL_law_300 (by decide) ?_
  refine gl_iadd dL_law_301 ?_
  refine gl_sld (j := p + 2) dL_law_302 (by rw [nI_add]) (show p + 2 < len by omega) (show len < 2147483648 by omega) ?_
  refine gl_aload_n dL_law_303 rfl ?_
  refine gl_iload_n dL_law_304 rfl ?_
  refine gl_iconst (v := nI 3) dL_law_305 (by decide) ?_
  refine gl_iadd dL_law_306 ?_
  refine gl_sld (j := p + 3) dL_law_307 (by rw [nI_add]) (show p + 3 < len by omega) (show len < 2147483648 by omega) ?_
  refine gl_callV (m_lay L (u', (len, f), xC x', po') y hV.szr (f (p + 1)) (f (p + 2)) (f (p + 3))) dL_law_308 q1100 q1101 q1102 q75 q1103 rfl hX1_lay rfl (rfl : vwCl[1]? = some (RX1, TX1, 21)) rfl rfl (rmOk (by omega) rfl) ⟨by first | exact Nat.le_refl _ | exact Nat.zero_le _ | decide | (dsimp only [rm]; omega), by first | exact Nat.le_refl _ | exact Nat.zero_le _ | decide | (dsimp only [rm]; omega)⟩ (rt1 ?_)
  exact gl_icmp_eq (tgt := 1407) dL_law_311 (by decide) (fun _ => gl_wid (by omega) (by omega) (kk _ (LI.mk hV'))) (fun h => absurd rfl h)
theorem lc_at (hV : RV (u, (len, f), mC y, po) τ x y n m t) (hp : p + 6 ≤ len) (hl : len ≤ 384) (hc : cc + 7 ≤ c0) (hs : ss + 1000 ≤ s0) (kk : ∀ μ, LI len f μ → GL gL_law (rm (L + 40) c0 s0) K (cc + 7) (ss + 1000) 1407 [some (.ref 0), some (.ref 1), some (.ref 18), some (.int (nI p))] [] μ) : GL gL_law (rm (L + 40) c0 s0) K cc ss 316 [some (.ref 0), some (.ref 1), some (.ref 18), some (.int (nI p))] [] (mX (u, (len, f), mC y, po) x) := by
  refine gl_aload_n dL_law_316 rfl ?_
  refine gl_aload_n dL_law_317 rfl ?_
  refine gl_iload_n dL_law_318 rfl ?_
  refine gl_iconst (v := nI 1) dL_law_319 (by decide) ?_
  refine gl_iadd dL_law_320 ?_
  refine gl_sld (j := p + 1) dL_law_321 (by rw [nI_add]) (show p + 1 < len by omega) (show len < 2147483648 by omega) ?_
  refine gl_aload_n dL_law_322 rfl ?_
  refine gl_iload_n dL_law_323 rfl ?_
  refine gl_iconst (v := nI 2) dL_law_324 (by decide) ?_
  refine gl_iadd dL_law_325 ?_
  refine gl_sld (j := p + 2) dL_law_326 (by rw [nI_add]) (show p + 2 < len by omega) (show len < 2147483648 by omega) ?_
  refine gl_callVW (x_at L hV (f (p + 1)) (f (p + 2))) dL_law_327 q361 q310 q311 q74 q312 (by decide) hX0_at rfl (rfl : vwCl[0]? = some (RX0, TX0, 30)) rfl rfl (rmOk (by omega) rfl) ⟨by first | exact Nat.le_refl _ | exact Nat.zero_le _ | decide | (dsimp only [rm]; omega), by first | exact Nat.le_refl _ | exact Nat.zero_le _ | decide | (dsimp only [rm]; omega)⟩ ?_
  rintro _ _ ⟨rfl, ⟨u', sc', fm', po'⟩, x', τ', n', m', t', rfl, ⟨hs', hm'⟩, hV'⟩
  have hs' : sc' = (len, f) := hs'
  have hm' : fm' = mC y := hm'
  subst hs'
  subst hm'
  refine gl_mem (μ1 := mM (u', (len, f), xC x', po') y) rfl ?_
  refine gl_aload_n dL_law_330 rfl ?_
  refine gl_aload_n dL_law_331 rfl ?_
  refine gl_iload_n dL_law_332 rfl ?_
  refine gl_iconst (v := nI 1) dL_law_333 (by decide) ?_
  refine gl_iadd dL_law_334 ?_
  refine gl_sld (j := p + 1) dL_law_335 (by rw [nI_add]) (show p + 1 < len by omega) (show len < 2147483648 by omega) ?_
  refine gl_aload_n dL_law_336 rfl ?_
  refine gl_iload_n dL_law_337 rfl ?_
  refine gl_iconst (v := nI 2) dL_law_338 (by decide) ?_
  refine gl_iadd dL_law_339 ?_
  refine gl_sld (j := p + 2) dL_law_340 (by rw [nI_add]) (show p + 2 < len by omega) (show len < 2147483648 by omega) ?_
  refine gl_callV (m_at L (u', (len, f), xC x', po') y hV.szr (f (p + 1)) (f (p + 2))) dL_law_341 q1108 q1109 q1110 q75 q1111 rfl hX1_at rfl (rfl : vwCl[1]? = some (RX1, TX1, 21)) rfl rfl (rmOk (by omega) rfl) ⟨by first | exact Nat.le_refl _ | exact Nat.zero_le _ | decide | (dsimp only [rm]; omega), by first | exact Nat.le_refl _ | exact Nat.zero_le _ | decide | (dsimp only [rm]; omega)⟩ (rt1 ?_)
  exact gl_icmp_eq (tgt := 1407) dL_law_344 (by decide) (fun _ => gl_wid (by omega) (by omega) (kk _ (LI.mk hV'))) (fun h => absurd rfl h)
theorem lc_tear (hV : RV (u, (len, f), mC y, po) τ x y n m t) (hp : p + 6 ≤ len) (hl : len ≤ 384) (hc : cc + 7 ≤ c0) (hs : ss + 1000 ≤ s0) (kk : ∀ μ, LI len f μ → GL gL_law (rm (L + 40) c0 s0) K (cc + 7) (ss + 1000) 1407 [some (.ref 0), some (.ref 1), some (.ref 18), some (.int (nI p))] [] μ) : GL gL_law (rm (L + 40) c0 s0) K cc ss 349 [some (.ref 0), some (.ref 1), some (.ref 18), some (.int (nI p))] [] (mX (u, (len, f), mC y, po) x) := by
  refine gl_aload_n dL_law_349 rfl ?_
  refine gl_aload_n dL_law_350 rfl ?_
  refine gl_iload_n dL_law_351 rfl ?_
  refine gl_iconst (v := nI 1) dL_law_352 (by decide) ?_
  refine gl_iadd dL_law_353 ?_
  refine gl_sld (j := p + 1) dL_law_354 (by rw [nI_add]) (show p + 1 < len by omega) (show len < 2147483648 by omega) ?_
  refine gl_callV (x_tear L hV (f (p + 1))) dL_law_355 q362 q363 q364 q74 q365 rfl hX0_tear rfl (rfl : vwCl[0]? = some (RX0, TX0, 30)) rfl rfl (rmOk (by omega) rfl) ⟨by first | exact Nat.le_refl _ | exact Nat.zero_le _ | decide | (dsimp only [rm]; omega), by first | exact Nat.le_refl _ | exact Nat.zero_le _ | decide | (dsimp only [rm]; omega)⟩ ?_
  rintro _ _ ⟨rfl, ⟨u', sc', fm', po'⟩, x', τ', n', m', t', rfl, ⟨hs', hm'⟩, hV'⟩
  have hs' : sc' = (len, f) := hs'
  have hm' : fm' = mC y := hm'
  subst hs'
  subst hm'
  refine gl_mem (μ1 := mM (u', (len, f), xC x', po') y) rfl ?_
  refine gl_aload_n dL_law_358 rfl ?_
  refine gl_aload_n dL_law_359 rfl ?_
  refine gl_iload_n dL_law_360 rfl ?_
  refine gl_iconst (v := nI 1) dL_law_361 (by decide) ?_
  refine gl_iadd dL_law_362 ?_
  refine gl_sld (j := p + 1) dL_law_363 (by rw [nI_add]) (show p + 1 < len by omega) (show len < 2147483648 by omega) ?_
  refine gl_callV (m_tear L (u', (len, f), xC x', po') y (f (p + 1))) dL_law_364 q1112 q1113 q1114 q75 q1115 rfl hX1_tear rfl (rfl : vwCl[1]? = some (RX1, TX1, 21)) rfl rfl (rmOk (by omega) rfl) ⟨by first | exact Nat.le_refl _ | exact Nat.zero_le _ | decide | (dsimp only [rm]; omega), by first | exact Nat.le_refl _ | exact Nat.zero_le _ | decide | (dsimp only [rm]; omega)⟩ (rt1 ?_)
  exact gl_icmp_eq (tgt := 1407) dL_law_367 (by decide) (fun _ => gl_wid (by omega) (by omega) (kk _ (LI.mk hV'))) (fun h => absurd rfl h)
theorem lc_copy (hV : RV (u, (len, f), mC y, po) τ x y n m t) (hp : p + 6 ≤ len) (hl : len ≤ 384) (hc : cc + 7 ≤ c0) (hs : ss + 1000 ≤ s0) (kk : ∀ μ, LI len f μ → GL gL_law (rm (L + 40) c0 s0) K (cc + 7) (ss + 1000) 1407 [some (.ref 0), some (.ref 1), some (.ref 18), some (.int (nI p))] [] μ) : GL gL_law (rm (L + 40) c0 s0) K cc ss 372 [some (.ref 0), some (.ref 1), some (.ref 18), some (.int (nI p))] [] (mX (u, (len, f), mC y, po) x) := by
  refine gl_aload_n dL_law_372 rfl ?_
  refine gl_aload_n dL_law_373 rfl ?_
  refine gl_iload_n dL_law_374 rfl ?_
  refine gl_iconst (v := nI 1) dL_law_375 (by decide) ?_
  refine gl_iadd dL_law_376 ?_
  refine gl_sld (j := p + 1) dL_law_377 (by rw [nI_add]) (show p + 1 < len by omega) (show len < 2147483648 by omega) ?_
  refine gl_aload_n dL_law_378 rfl ?_
  refine gl_iload_n dL_law_379 rfl ?_
  refine gl_iconst (v := nI 2) dL_law_380 (by decide) ?_
  refine gl_iadd dL_law_381 ?_
  refine gl_sld (j := p + 2) dL_law_382 (by rw [nI_add]) (show p + 2 < len by omega) (show len < 2147483648 by omega) ?_
  refine gl_aload_n dL_law_383 rfl ?_
  refine gl_iload_n dL_law_384 rfl ?_
  refine gl_iconst (v := nI 3) dL_law_385 (by decide) ?_
  refine gl_iadd dL_law_386 ?_
  refine gl_sld (j := p + 3) dL_law_387 (by rw [nI_add]) (show p + 3 < len by omega) (show len < 2147483648 by omega) ?_
  refine gl_aload_n dL_law_388 rfl ?_
  refine gl_iload_n dL_law_389 rfl ?_
  refine gl_iconst (v := nI 4) dL_law_390 (by decide) ?_
  refine gl_iadd dL_law_391 ?_
  refine gl_sld (j := p + 4) dL_law_392 (by rw [nI_add]) (show p + 4 < len by omega) (show len < 2147483648 by omega) ?_
  refine gl_aload_n dL_law_393 rfl ?_
  refine gl_iload_n dL_law_394 rfl ?_
  refine gl_iconst (v := nI 5) dL_law_395 (by decide) ?_
  refine gl_iadd dL_law_396 ?_
  refine gl_sld (j := p + 5) dL_law_397 (by rw [nI_add]) (show p + 5 < len by omega) (show len < 2147483648 by omega) ?_
  refine gl_callVW (x_copy L hV (f (p + 1)) (f (p + 2)) (f (p + 3)) (f (p + 4)) (f (p + 5))) dL_law_398 q366 q367 q368 q74 q369 (by decide) hX0_copy rfl (rfl : vwCl[0]? = some (RX0, TX0, 30)) rfl rfl (rmOk (by omega) rfl) ⟨by first | exact Nat.le_refl _ | exact Nat.zero_le _ | decide | (dsimp only [rm]; omega), by first | exact Nat.le_refl _ | exact Nat.zero_le _ | decide | (dsimp only [rm]; omega)⟩ ?_
  rintro _ _ ⟨rfl, ⟨u', sc', fm', po'⟩, x', τ', n', m', t', rfl, ⟨hs', hm'⟩, hV'⟩
  have hs' : sc' = (len, f) := hs'
  have hm' : fm' = mC y := hm'
  subst hs'
  subst hm'
  refine gl_mem (μ1 := mM (u', (len, f), xC x', po') y) rfl ?_
  refine gl_aload_n dL_law_401 rfl ?_
  refine gl_aload_n dL_law_402 rfl ?_
  refine gl_iload_n dL_law_403 rfl ?_
  refine gl_iconst (v := nI 1) dL_law_404 (by decide) ?_
  refine gl_iadd dL_law_405 ?_
  refine gl_sld (j := p + 1) dL_law_406 (by rw [nI_add]) (show p + 1 < len by omega) (show len < 2147483648 by omega) ?_
  refine gl_aload_n dL_law_407 rfl ?_
  refine gl_iload_n dL_law_408 rfl ?_
  refine gl_iconst (v := nI 2) dL_law_409 (by decide) ?_
  refine gl_iadd dL_law_410 ?_
  refine gl_sld (j := p + 2) dL_law_411 (by rw [nI_add]) (show p + 2 < len by omega) (show len < 2147483648 by omega) ?_
  refine gl_aload_n dL_law_412 rfl ?_
  refine gl_iload_n dL_law_413 rfl ?_
  refine gl_iconst (v := nI 3) dL_law_414 (by decide) ?_
  refine gl_iadd dL_law_415 ?_
  refine gl_sld (j := p + 3) dL_law_416 (by rw [nI_add]) (show p + 3 < len by omega) (show len < 2147483648 by omega) ?_
  refine gl_aload_n dL_law_417 rfl ?_
  refine gl_iload_n dL_law_418 rfl ?_
  refine gl_iconst (v := nI 4) dL_law_419 (by decide) ?_
  refine gl_iadd dL_law_420 ?_
  refine gl_sld (j := p + 4) dL_law_421 (by rw [nI_add]) (show p + 4 < len by omega) (show len < 2147483648 by omega) ?_
  refine gl_aload_n dL_law_422 rfl ?_
  refine gl_iload_n dL_law_423 rfl ?_
  refine gl_iconst (v := nI 5) dL_law_424 (by decide) ?_
  refine gl_iadd dL_law_425 ?_
  refine gl_sld (j := p + 5) dL_law_426 (by rw [nI_add]) (show p + 5 < len by omega) (show len < 2147483648 by omega) ?_
  refine gl_callV (m_copy L (u', (len, f), xC x', po') y hV.szr (f (p + 1)) (f (p + 2)) (f (p + 3)) (f (p + 4)) (f (p + 5))) dL_law_427 q1116 q1117 q1118 q75 q1119 rfl hX1_copy rfl (rfl : vwCl[1]? = some (RX1, TX1, 21)) rfl rfl (rmOk (by omega) rfl) ⟨by first | exact Nat.le_refl _ | exact Nat.zero_le _ | decide | (dsimp only [rm]; omega), by first | exact Nat.le_refl _ | exact Nat.zero_le _ | decide | (dsimp only [rm]; omega)⟩ (rt1 ?_)
  exact gl_icmp_eq (tgt := 1407) dL_law_430 (by decide) (fun _ => gl_wid (by omega) (by omega) (kk _ (LI.mk hV'))) (fun h => absurd rfl h)
theorem lc_mean (hV : RV (u, (len, f), mC y, po) τ x y n m t) (hp : p + 6 ≤ len) (hl : len ≤ 384) (hc : cc + 7 ≤ c0) (hs : ss + 1000 ≤ s0) (kk : ∀ μ, LI len f μ → GL gL_law (rm (L + 40) c0 s0) K (cc + 7) (ss + 1000) 1407 [some (.ref 0), some (.ref 1), some (.ref 18), some (.int (nI p))] [] μ) : GL gL_law (rm (L + 40) c0 s0) K cc ss 435 [some (.ref 0), some (.ref 1), some (.ref 18), some (.int (nI p))] [] (mX (u, (len, f), mC y, po) x) := by
  refine gl_aload_n dL_law_435 rfl ?_
  refine gl_aload_n dL_law_436 rfl ?_
  refine gl_iload_n dL_law_437 rfl ?_
  refine gl_iconst (v := nI 1) dL_law_438 (by decide) ?_
  refine gl_iadd dL_law_439 ?_
  refine gl_sld (j := p + 1) dL_law_440 (by rw [nI_add]) (show p + 1 < len by omega) (show len < 2147483648 by omega) ?_
  refine gl_callVW (x_mean L hV (f (p + 1))) dL_law_441 q374 q375 q376 q74 q377 (by decide) hX0_mean rfl (rfl : vwCl[0]? = some (RX0, TX0, 30)) rfl rfl (rmOk (by omega) rfl) ⟨by first | exact Nat.le_refl _ | exact Nat.zero_le _ | decide | (dsimp only [rm]; omega), by first | exact Nat.le_refl _ | exact Nat.zero_le _ | decide | (dsimp only [rm]; omega)⟩ ?_
  rintro _ _ ⟨rfl, ⟨u', sc', fm', po'⟩, x', τ', n', m', t', rfl, ⟨hs', hm'⟩, hV'⟩
  have hs' : sc' = (len, f) := hs'
  have hm' : fm' = mC y := hm'
  subst hs'
  subst hm'
  refine gl_mem (μ1 := mM (u', (len, f), xC x', po') y) rfl ?_
  refine gl_aload_n dL_law_444 rfl ?_
  refine gl_aload_n dL_law_445 rfl ?_
  refine gl_iload_n dL_law_446 rfl ?_
  refine gl_iconst (v := nI 1) dL_law_447 (by decide) ?_
  refine gl_iadd dL_law_448 ?_
  refine gl_sld (j := p + 1) dL_law_449 (by rw [nI_add]) (show p + 1 < len by omega) (show len < 2147483648 by omega) ?_
  refine gl_callV (m_mean L (u', (len, f), xC x', po') y hV.szr (f (p + 1))) dL_law_450 q1120 q1121 q1122 q75 q1123 rfl hX1_mean rfl (rfl : vwCl[1]? = some (RX1, TX1, 21)) rfl rfl (rmOk (by omega) rfl) ⟨by first | exact Nat.le_refl _ | exact Nat.zero_le _ | decide | (dsimp only [rm]; omega), by first | exact Nat.le_refl _ | exact Nat.zero_le _ | decide | (dsimp only [rm]; omega)⟩ (rt1 ?_)
  exact gl_icmp_eq (tgt := 1407) dL_law_453 (by decide) (fun _ => gl_wid (by omega) (by omega) (kk _ (LI.mk hV'))) (fun h => absurd rfl h)
theorem lc_text (hV : RV (u, (len, f), mC y, po) τ x y n m t) (hp : p + 6 ≤ len) (hl : len ≤ 384) (hc : cc + 7 ≤ c0) (hs : ss + 1000 ≤ s0) (kk : ∀ μ, LI len f μ → GL gL_law (rm (L + 40) c0 s0) K (cc + 7) (ss + 1000) 1407 [some (.ref 0), some (.ref 1), some (.ref 18), some (.int (nI p))] [] μ) : GL gL_law (rm (L + 40) c0 s0) K cc ss 458 [some (.ref 0), some (.ref 1), some (.ref 18), some (.int (nI p))] [] (mX (u, (len, f), mC y, po) x) := by
  refine gl_aload_n dL_law_458 rfl ?_
  refine gl_aload_n dL_law_459 rfl ?_
  refine gl_iload_n dL_law_460 rfl ?_
  refine gl_iconst (v := nI 1) dL_law_461 (by decide) ?_
  refine gl_iadd dL_law_462 ?_
  refine gl_sld (j := p + 1) dL_law_463 (by rw [nI_add]) (show p + 1 < len by omega) (show len < 2147483648 by omega) ?_
  refine gl_aload_n dL_law_464 rfl ?_
  refine gl_iload_n dL_law_465 rfl ?_
  refine gl_iconst (v := nI 2) dL_law_466 (by decide) ?_
  refine gl_iadd dL_law_467 ?_
  refine gl_sld (j := p + 2) dL_law_468 (by rw [nI_add]) (show p + 2 < len by omega) (show len < 2147483648 by omega) ?_
  refine gl_callVW (x_text L hV (f (p + 1)) (f (p + 2))) dL_law_469 q392 q393 q394 q74 q395 (by decide) hX0_text rfl (rfl : vwCl[0]? = some (RX0, TX0, 30)) rfl rfl (rmOk (by omega) rfl) ⟨by first | exact Nat.le_refl _ | exact Nat.zero_le _ | decide | (dsimp only [rm]; omega), by first | exact Nat.le_refl _ | exact Nat.zero_le _ | decide | (dsimp only [rm]; omega)⟩ ?_
  rintro _ _ ⟨rfl, ⟨u', sc', fm', po'⟩, x', τ', n', m', t', rfl, ⟨hs', hm'⟩, hV'⟩
  have hs' : sc' = (len, f) := hs'
  have hm' : fm' = mC y := hm'
  subst hs'
  subst hm'
  refine gl_mem (μ1 := mM (u', (len, f), xC x', po') y) rfl ?_
  refine gl_aload_n dL_law_472 rfl ?_
  refine gl_aload_n dL_law_473 rfl ?_
  refine gl_iload_n dL_law_474 rfl ?_
  refine gl_iconst (v := nI 1) dL_law_475 (by decide) ?_
  refine gl_iadd dL_law_476 ?_
  refine gl_sld (j := p + 1) dL_law_477 (by rw [nI_add]) (show p + 1 < len by omega) (show len < 2147483648 by omega) ?_
  refine gl_aload_n dL_law_478 rfl ?_
  refine gl_iload_n dL_law_479 rfl ?_
  refine gl_iconst (v := nI 2) dL_law_480 (by decide) ?_
  refine gl_iadd dL_law_481 ?_
  refine gl_sld (j := p + 2) dL_law_482 (by rw [nI_add]) (show p + 2 < len by omega) (show len < 2147483648 by omega) ?_
  refine gl_callV (m_text L (u', (len, f), xC x', po') y (f (p + 1)) (f (p + 2))) dL_law_483 q1124 q1125 q1126 q75 q1127 rfl hX1_text rfl (rfl : vwCl[1]? = some (RX1, TX1, 21)) rfl rfl (rmOk (by omega) rfl) ⟨by first | exact Nat.le_refl _ | exact Nat.zero_le _ | decide | (dsimp only [rm]; omega), by first | exact Nat.le_refl _ | exact Nat.zero_le _ | decide | (dsimp only [rm]; omega)⟩ (rt1 ?_)
  exact gl_icmp_eq (tgt := 1407) dL_law_486 (by decide) (fun _ => gl_wid (by omega) (by omega) (kk _ (LI.mk hV'))) (fun h => absurd rfl h)
theorem lc_put (hV : RV (u, (len, f), mC y, po) τ x y n m t) (hp : p + 6 ≤ len) (hl : len ≤ 384) (hc : cc + 7 ≤ c0) (hs : ss + 1000 ≤ s0) (kk : ∀ μ, LI len f μ → GL gL_law (rm (L + 40) c0 s0) K (cc + 7) (ss + 1000) 1407 [some (.ref 0), some (.ref 1), some (.ref 18), some (.int (nI p))] [] μ) : GL gL_law (rm (L + 40) c0 s0) K cc ss 491 [some (.ref 0), some (.ref 1), some (.ref 18), some (.int (nI p))] [] (mX (u, (len, f), mC y, po) x) := by
  refine gl_aload_n dL_law_491 rfl ?_
  refine gl_aload_n dL_law_492 rfl ?_
  refine gl_iload_n dL_law_493 rfl ?_
  refine gl_iconst (v := nI 1) dL_law_494 (by decide) ?_
  refine gl_iadd dL_law_495 ?_
  refine gl_sld (j := p + 1) dL_law_496 (by rw [nI_add]) (show p + 1 < len by omega) (show len < 2147483648 by omega) ?_
  refine gl_aload_n dL_law_497 rfl ?_
  refine gl_iload_n dL_law_498 rfl ?_
  refine gl_iconst (v := nI 2) dL_law_499 (by decide) ?_
  refine gl_iadd dL_law_500 ?_
  refine gl_sld (j := p + 2) dL_law_501 (by rw [nI_add]) (show p + 2 < len by omega) (show len < 2147483648 by omega) ?_
  refine gl_aload_n dL_law_502 rfl ?_
  refine gl_iload_n dL_law_503 rfl ?_
  refine gl_iconst (v := nI 3) dL_law_504 (by decide) ?_
  refine gl_iadd dL_law_505 ?_
  refine gl_sld (j := p + 3) dL_law_506 (by rw [nI_add]) (show p + 3 < len by omega) (show len < 2147483648 by omega) ?_
  refine gl_callVW (x_put L hV (f (p + 1)) (f (p + 2)) (f (p + 3))) dL_law_507 q399 q400 q401 q74 q402 (by decide) hX0_put rfl (rfl : vwCl[0]? = some (RX0, TX0, 30)) rfl rfl (rmOk (by omega) rfl) ⟨by first | exact Nat.le_refl _ | exact Nat.zero_le _ | decide | (dsimp only [rm]; omega), by first | exact Nat.le_refl _ | exact Nat.zero_le _ | decide | (dsimp only [rm]; omega)⟩ ?_
  rintro _ _ ⟨rfl, ⟨u', sc', fm', po'⟩, x', τ', n', m', t', rfl, ⟨hs', hm'⟩, hV'⟩
  have hs' : sc' = (len, f) := hs'
  have hm' : fm' = mC y := hm'
  subst hs'
  subst hm'
  refine gl_mem (μ1 := mM (u', (len, f), xC x', po') y) rfl ?_
  refine gl_aload_n dL_law_510 rfl ?_
  refine gl_aload_n dL_law_511 rfl ?_
  refine gl_iload_n dL_law_512 rfl ?_
  refine gl_iconst (v := nI 1) dL_law_513 (by decide) ?_
  refine gl_iadd dL_law_514 ?_
  refine gl_sld (j := p + 1) dL_law_515 (by rw [nI_add]) (show p + 1 < len by omega) (show len < 2147483648 by omega) ?_
  refine gl_aload_n dL_law_516 rfl ?_
  refine gl_iload_n dL_law_517 rfl ?_
  refine gl_iconst (v := nI 2) dL_law_518 (by decide) ?_
  refine gl_iadd dL_law_519 ?_
  refine gl_sld (j := p + 2) dL_law_520 (by rw [nI_add]) (show p + 2 < len by omega) (show len < 2147483648 by omega) ?_
  refine gl_aload_n dL_law_521 rfl ?_
  refine gl_iload_n dL_law_522 rfl ?_
  refine gl_iconst (v := nI 3) dL_law_523 (by decide) ?_
  refine gl_iadd dL_law_524 ?_
  refine gl_sld (j := p + 3) dL_law_525 (by rw [nI_add]) (show p + 3 < len by omega) (show len < 2147483648 by omega) ?_
  refine gl_callV (m_put L (u', (len, f), xC x', po') y hV.szt (f (p + 1)) (f (p + 2)) (f (p + 3))) dL_law_526 q1132 q1133 q1134 q75 q1135 rfl hX1_put rfl (rfl : vwCl[1]? = some (RX1, TX1, 21)) rfl rfl (rmOk (by omega) rfl) ⟨by first | exact Nat.le_refl _ | exact Nat.zero_le _ | decide | (dsimp only [rm]; omega), by first | exact Nat.le_refl _ | exact Nat.zero_le _ | decide | (dsimp only [rm]; omega)⟩ (rt1 ?_)
  exact gl_icmp_eq (tgt := 1407) dL_law_529 (by decide) (fun _ => gl_wid (by omega) (by omega) (kk _ (LI.mk hV'))) (fun h => absurd rfl h)
theorem lc_fault (hV : RV (u, (len, f), mC y, po) τ x y n m t) (hp : p + 6 ≤ len) (hl : len ≤ 384) (hc : cc + 7 ≤ c0) (hs : ss + 1000 ≤ s0) (kk : ∀ μ, LI len f μ → GL gL_law (rm (L + 40) c0 s0) K (cc + 7) (ss + 1000) 1407 [some (.ref 0), some (.ref 1), some (.ref 18), some (.int (nI p))] [] μ) : GL gL_law (rm (L + 40) c0 s0) K cc ss 534 [some (.ref 0), some (.ref 1), some (.ref 18), some (.int (nI p))] [] (mX (u, (len, f), mC y, po) x) := by
  refine gl_aload_n dL_law_534 rfl ?_
  refine gl_aload_n dL_law_535 rfl ?_
  refine gl_iload_n dL_law_536 rfl ?_
  refine gl_iconst (v := nI 1) dL_law_537 (by decide) ?_
  refine gl_iadd dL_law_538 ?_
  refine gl_sld (j := p + 1) dL_law_539 (by rw [nI_add]) (show p + 1 < len by omega) (show len < 2147483648 by omega) ?_
  refine gl_callV (x_fault L hV (f (p + 1))) dL_law_540 q403 q404 q405 q74 q406 rfl hX0_fault rfl (rfl : vwCl[0]? = some (RX0, TX0, 30)) rfl rfl (rmOk (by omega) rfl) ⟨by first | exact Nat.le_refl _ | exact Nat.zero_le _ | decide | (dsimp only [rm]; omega), by first | exact Nat.le_refl _ | exact Nat.zero_le _ | decide | (dsimp only [rm]; omega)⟩ ?_
  rintro _ _ ⟨rfl, ⟨u', sc', fm', po'⟩, x', τ', n', m', t', rfl, ⟨hs', hm'⟩, hV'⟩
  have hs' : sc' = (len, f) := hs'
  have hm' : fm' = mC y := hm'
  subst hs'
  subst hm'
  refine gl_mem (μ1 := mM (u', (len, f), xC x', po') y) rfl ?_
  refine gl_aload_n dL_law_543 rfl ?_
  refine gl_aload_n dL_law_544 rfl ?_
  refine gl_iload_n dL_law_545 rfl ?_
  refine gl_iconst (v := nI 1) dL_law_546 (by decide) ?_
  refine gl_iadd dL_law_547 ?_
  refine gl_sld (j := p + 1) dL_law_548 (by rw [nI_add]) (show p + 1 < len by omega) (show len < 2147483648 by omega) ?_
  refine gl_callV (m_fault L (u', (len, f), xC x', po') y hV.szt (f (p + 1))) dL_law_549 q1136 q1137 q1138 q75 q1139 rfl hX1_fault rfl (rfl : vwCl[1]? = some (RX1, TX1, 21)) rfl rfl (rmOk (by omega) rfl) ⟨by first | exact Nat.le_refl _ | exact Nat.zero_le _ | decide | (dsimp only [rm]; omega), by first | exact Nat.le_refl _ | exact Nat.zero_le _ | decide | (dsimp only [rm]; omega)⟩ (rt1 ?_)
  exact gl_icmp_eq (tgt := 1407) dL_law_552 (by decide) (fun _ => gl_wid (by omega) (by omega) (kk _ (LI.mk hV'))) (fun h => absurd rfl h)
theorem lc_library (hV : RV (u, (len, f), mC y, po) τ x y n m t) (hp : p + 6 ≤ len) (hl : len ≤ 384) (hc : cc + 7 ≤ c0) (hs : ss + 1000 ≤ s0) (kk : ∀ μ, LI len f μ → GL gL_law (rm (L + 40) c0 s0) K (cc + 7) (ss + 1000) 1407 [some (.ref 0), some (.ref 1), some (.ref 18), some (.int (nI p))] [] μ) : GL gL_law (rm (L + 40) c0 s0) K cc ss 557 [some (.ref 0), some (.ref 1), some (.ref 18), some (.int (nI p))] [] (mX (u, (len, f), mC y, po) x) := by
  refine gl_aload_n dL_law_557 rfl ?_
  refine gl_aload_n dL_law_558 rfl ?_
  refine gl_iload_n dL_law_559 rfl ?_
  refine gl_iconst (v := nI 1) dL_law_560 (by decide) ?_
  refine gl_iadd dL_law_561 ?_
  refine gl_sld (j := p + 1) dL_law_562 (by rw [nI_add]) (show p + 1 < len by omega) (show len < 2147483648 by omega) ?_
  refine gl_callV (x_library L hV (f (p + 1))) dL_law_563 q430 q431 q432 q74 q433 rfl hX0_library rfl (rfl : vwCl[0]? = some (RX0, TX0, 30)) rfl rfl (rmOk (by omega) rfl) ⟨by first | exact Nat.le_refl _ | exact Nat.zero_le _ | decide | (dsimp only [rm]; omega), by first | exact Nat.le_refl _ | exact Nat.zero_le _ | decide | (dsimp only [rm]; omega)⟩ ?_
  rintro _ _ ⟨rfl, ⟨u', sc', fm', po'⟩, x', τ', n', m', t', rfl, ⟨hs', hm'⟩, hV'⟩
  have hs' : sc' = (len, f) := hs'
  have hm' : fm' = mC y := hm'
  subst hs'
  subst hm'
  refine gl_mem (μ1 := mM (u', (len, f), xC x', po') y) rfl ?_
  refine gl_aload_n dL_law_566 rfl ?_
  refine gl_aload_n dL_law_567 rfl ?_
  refine gl_iload_n dL_law_568 rfl ?_
  refine gl_iconst (v := nI 1) dL_law_569 (by decide) ?_
  refine gl_iadd dL_law_570 ?_
  refine gl_sld (j := p + 1) dL_law_571 (by rw [nI_add]) (show p + 1 < len by omega) (show len < 2147483648 by omega) ?_
  refine gl_callV (m_library L (u', (len, f), xC x', po') y hV.szt (f (p + 1))) dL_law_572 q1165 q1166 q1167 q75 q1168 rfl hX1_library rfl (rfl : vwCl[1]? = some (RX1, TX1, 21)) rfl rfl (rmOk (by omega) rfl) ⟨by first | exact Nat.le_refl _ | exact Nat.zero_le _ | decide | (dsimp only [rm]; omega), by first | exact Nat.le_refl _ | exact Nat.zero_le _ | decide | (dsimp only [rm]; omega)⟩ (rt1 ?_)
  exact gl_icmp_eq (tgt := 1407) dL_law_575 (by decide) (fun _ => gl_wid (by omega) (by omega) (kk _ (LI.mk hV'))) (fun h => absurd rfl h)
theorem lc_card (hV : RV (u, (len, f), mC y, po) τ x y n m t) (hp : p + 6 ≤ len) (hl : len ≤ 384) (hc : cc + 7 ≤ c0) (hs : ss + 1000 ≤ s0) (kk : ∀ μ, LI len f μ → GL gL_law (rm (L + 40) c0 s0) K (cc + 7) (ss + 1000) 1407 [some (.ref 0), some (.ref 1), some (.ref 18), some (.int (nI p))] [] μ) : GL gL_law (rm (L + 40) c0 s0) K cc ss 580 [some (.ref 0), some (.ref 1), some (.ref 18), some (.int (nI p))] [] (mX (u, (len, f), mC y, po) x) := by
  refine gl_aload_n dL_law_580 rfl ?_
  refine gl_aload_n dL_law_581 rfl ?_
  refine gl_iload_n dL_law_582 rfl ?_
  refine gl_iconst (v := nI 1) dL_law_583 (by decide) ?_
  refine gl_iadd dL_law_584 ?_
  refine gl_sld (j := p + 1) dL_law_585 (by rw [nI_add]) (show p + 1 < len by omega) (show len < 2147483648 by omega) ?_
  refine gl_aload_n dL_law_586 rfl ?_
  refine gl_iload_n dL_law_587 rfl ?_
  refine gl_iconst (v := nI 2) dL_law_588 (by decide) ?_
  refine gl_iadd dL_law_589 ?_
  refine gl_sld (j := p + 2) dL_law_590 (by rw [nI_add]) (show p + 2 < len by omega) (show len < 2147483648 by omega) ?_
  refine gl_callV (x_card L hV (f (p + 1)) (f (p + 2))) dL_law_591 q513 q514 q515 q74 q516 rfl hX0_card rfl (rfl : vwCl[0]? = some (RX0, TX0, 30)) rfl rfl (rmOk (by omega) rfl) ⟨by first | exact Nat.le_refl _ | exact Nat.zero_le _ | decide | (dsimp only [rm]; omega), by first | exact Nat.le_refl _ | exact Nat.zero_le _ | decide | (dsimp only [rm]; omega)⟩ ?_
  rintro _ _ ⟨rfl, ⟨u', sc', fm', po'⟩, x', τ', n', m', t', rfl, ⟨hs', hm'⟩, hV'⟩
  have hs' : sc' = (len, f) := hs'
  have hm' : fm' = mC y := hm'
  subst hs'
  subst hm'
  refine gl_mem (μ1 := mM (u', (len, f), xC x', po') y) rfl ?_
  refine gl_aload_n dL_law_594 rfl ?_
  refine gl_aload_n dL_law_595 rfl ?_
  refine gl_iload_n dL_law_596 rfl ?_
  refine gl_iconst (v := nI 1) dL_law_597 (by decide) ?_
  refine gl_iadd dL_law_598 ?_
  refine gl_sld (j := p + 1) dL_law_599 (by rw [nI_add]) (show p + 1 < len by omega) (show len < 2147483648 by omega) ?_
  refine gl_aload_n dL_law_600 rfl ?_
  refine gl_iload_n dL_law_601 rfl ?_
  refine gl_iconst (v := nI 2) dL_law_602 (by decide) ?_
  refine gl_iadd dL_law_603 ?_
  refine gl_sld (j := p + 2) dL_law_604 (by rw [nI_add]) (show p + 2 < len by omega) (show len < 2147483648 by omega) ?_
  refine gl_callV (m_card L (u', (len, f), xC x', po') y hV.lb (f (p + 1)) (f (p + 2))) dL_law_605 q1172 q1173 q1174 q75 q1175 rfl hX1_card rfl (rfl : vwCl[1]? = some (RX1, TX1, 21)) rfl rfl (rmOk (by omega) rfl) ⟨by first | exact Nat.le_refl _ | exact Nat.zero_le _ | decide | (dsimp only [rm]; omega), by first | exact Nat.le_refl _ | exact Nat.zero_le _ | decide | (dsimp only [rm]; omega)⟩ (rt1 ?_)
  exact gl_icmp_eq (tgt := 1407) dL_law_608 (by decide) (fun _ => gl_wid (by omega) (by omega) (kk _ (LI.mk hV'))) (fun h => absurd rfl h)
theorem lc_question (hV : RV (u, (len, f), mC y, po) τ x y n m t) (hp : p + 6 ≤ len) (hl : len ≤ 384) (hc : cc + 7 ≤ c0) (hs : ss + 1000 ≤ s0) (kk : ∀ μ, LI len f μ → GL gL_law (rm (L + 40) c0 s0) K (cc + 7) (ss + 1000) 1407 [some (.ref 0), some (.ref 1), some (.ref 18), some (.int (nI p))] [] μ) : GL gL_law (rm (L + 40) c0 s0) K cc ss 613 [some (.ref 0), some (.ref 1), some (.ref 18), some (.int (nI p))] [] (mX (u, (len, f), mC y, po) x) := by
  refine gl_aload_n dL_law_613 rfl ?_
  refine gl_aload_n dL_law_614 rfl ?_
  refine gl_iload_n dL_law_615 rfl ?_
  refine gl_iconst (v := nI 1) dL_law_616 (by decide) ?_
  refine gl_iadd dL_law_617 ?_
  refine gl_sld (j := p + 1) dL_law_618 (by rw [nI_add]) (show p + 1 < len by omega) (show len < 2147483648 by omega) ?_
  refine gl_aload_n dL_law_619 rfl ?_
  refine gl_iload_n dL_law_620 rfl ?_
  refine gl_iconst (v := nI 2) dL_law_621 (by decide) ?_
  refine gl_iadd dL_law_622 ?_
  refine gl_sld (j := p + 2) dL_law_623 (by rw [nI_add]) (show p + 2 < len by omega) (show len < 2147483648 by omega) ?_
  refine gl_callV (x_question L hV (f (p + 1)) (f (p + 2))) dL_law_624 q588 q589 q590 q74 q591 rfl hX0_question rfl (rfl : vwCl[0]? = some (RX0, TX0, 30)) rfl rfl (rmOk (by omega) rfl) ⟨by first | exact Nat.le_refl _ | exact Nat.zero_le _ | decide | (dsimp only [rm]; omega), by first | exact Nat.le_refl _ | exact Nat.zero_le _ | decide | (dsimp only [rm]; omega)⟩ ?_
  rintro _ _ ⟨rfl, ⟨u', sc', fm', po'⟩, x', τ', n', m', t', rfl, ⟨hs', hm'⟩, hV'⟩
  have hs' : sc' = (len, f) := hs'
  have hm' : fm' = mC y := hm'
  subst hs'
  subst hm'
  refine gl_mem (μ1 := mM (u', (len, f), xC x', po') y) rfl ?_
  refine gl_aload_n dL_law_627 rfl ?_
  refine gl_aload_n dL_law_628 rfl ?_
  refine gl_iload_n dL_law_629 rfl ?_
  refine gl_iconst (v := nI 1) dL_law_630 (by decide) ?_
  refine gl_iadd dL_law_631 ?_
  refine gl_sld (j := p + 1) dL_law_632 (by rw [nI_add]) (show p + 1 < len by omega) (show len < 2147483648 by omega) ?_
  refine gl_aload_n dL_law_633 rfl ?_
  refine gl_iload_n dL_law_634 rfl ?_
  refine gl_iconst (v := nI 2) dL_law_635 (by decide) ?_
  refine gl_iadd dL_law_636 ?_
  refine gl_sld (j := p + 2) dL_law_637 (by rw [nI_add]) (show p + 2 < len by omega) (show len < 2147483648 by omega) ?_
  refine gl_callV (m_question L (u', (len, f), xC x', po') y hV.lb (f (p + 1)) (f (p + 2))) dL_law_638 q1192 q1193 q1194 q75 q1195 rfl hX1_question rfl (rfl : vwCl[1]? = some (RX1, TX1, 21)) rfl rfl (rmOk (by omega) rfl) ⟨by first | exact Nat.le_refl _ | exact Nat.zero_le _ | decide | (dsimp only [rm]; omega), by first | exact Nat.le_refl _ | exact Nat.zero_le _ | decide | (dsimp only [rm]; omega)⟩ (rt1 ?_)
  exact gl_icmp_eq (tgt := 1407) dL_law_641 (by decide) (fun _ => gl_wid (by omega) (by omega) (kk _ (LI.mk hV'))) (fun h => absurd rfl h)
theorem lc_mark (hV : RV (u, (len, f), mC y, po) τ x y n m t) (hp : p + 6 ≤ len) (hl : len ≤ 384) (hc : cc + 7 ≤ c0) (hs : ss + 1000 ≤ s0) (kk : ∀ μ, LI len f μ → GL gL_law (rm (L + 40) c0 s0) K (cc + 7) (ss + 1000) 1407 [some (.ref 0), some (.ref 1), some (.ref 18), some (.int (nI p))] [] μ) : GL gL_law (rm (L + 40) c0 s0) K cc ss 646 [some (.ref 0), some (.ref 1), some (.ref 18), some (.int (nI p))] [] (mX (u, (len, f), mC y, po) x) := by
  refine gl_aload_n dL_law_646 rfl ?_
  refine gl_aload_n dL_law_647 rfl ?_
  refine gl_iload_n dL_law_648 rfl ?_
  refine gl_iconst (v := nI 1) dL_law_649 (by decide) ?_
  refine gl_iadd dL_law_650 ?_
  refine gl_sld (j := p + 1) dL_law_651 (by rw [nI_add]) (show p + 1 < len by omega) (show len < 2147483648 by omega) ?_
  refine gl_aload_n dL_law_652 rfl ?_
  refine gl_iload_n dL_law_653 rfl ?_
  refine gl_iconst (v := nI 2) dL_law_654 (by decide) ?_
  refine gl_iadd dL_law_655 ?_
  refine gl_sld (j := p + 2) dL_law_656 (by rw [nI_add]) (show p + 2 < len by omega) (show len < 2147483648 by omega) ?_
  refine gl_callVW (x_mark L hV (f (p + 1)) (f (p + 2))) dL_law_657 q604 q605 q606 q74 q607 (by decide) hX0_mark rfl (rfl : vwCl[0]? = some (RX0, TX0, 30)) rfl rfl (rmOk (by omega) rfl) ⟨by first | exact Nat.le_refl _ | exact Nat.zero_le _ | decide | (dsimp only [rm]; omega), by first | exact Nat.le_refl _ | exact Nat.zero_le _ | decide | (dsimp only [rm]; omega)⟩ ?_
  rintro _ _ ⟨rfl, ⟨u', sc', fm', po'⟩, x', τ', n', m', t', rfl, ⟨hs', hm'⟩, hV'⟩
  have hs' : sc' = (len, f) := hs'
  have hm' : fm' = mC y := hm'
  subst hs'
  subst hm'
  refine gl_mem (μ1 := mM (u', (len, f), xC x', po') y) rfl ?_
  refine gl_aload_n dL_law_660 rfl ?_
  refine gl_aload_n dL_law_661 rfl ?_
  refine gl_iload_n dL_law_662 rfl ?_
  refine gl_iconst (v := nI 1) dL_law_663 (by decide) ?_
  refine gl_iadd dL_law_664 ?_
  refine gl_sld (j := p + 1) dL_law_665 (by rw [nI_add]) (show p + 1 < len by omega) (show len < 2147483648 by omega) ?_
  refine gl_aload_n dL_law_666 rfl ?_
  refine gl_iload_n dL_law_667 rfl ?_
  refine gl_iconst (v := nI 2) dL_law_668 (by decide) ?_
  refine gl_iadd dL_law_669 ?_
  refine gl_sld (j := p + 2) dL_law_670 (by rw [nI_add]) (show p + 2 < len by omega) (show len < 2147483648 by omega) ?_
  refine gl_callV (m_mark L (u', (len, f), xC x', po') y hV.lb (f (p + 1)) (f (p + 2))) dL_law_671 q1200 q1201 q1202 q75 q1203 rfl hX1_mark rfl (rfl : vwCl[1]? = some (RX1, TX1, 21)) rfl rfl (rmOk (by omega) rfl) ⟨by first | exact Nat.le_refl _ | exact Nat.zero_le _ | decide | (dsimp only [rm]; omega), by first | exact Nat.le_refl _ | exact Nat.zero_le _ | decide | (dsimp only [rm]; omega)⟩ (rt1 ?_)
  exact gl_icmp_eq (tgt := 1407) dL_law_674 (by decide) (fun _ => gl_wid (by omega) (by omega) (kk _ (LI.mk hV'))) (fun h => absurd rfl h)
theorem lc_shelve (hV : RV (u, (len, f), mC y, po) τ x y n m t) (hp : p + 6 ≤ len) (hl : len ≤ 384) (hc : cc + 7 ≤ c0) (hs : ss + 1000 ≤ s0) (kk : ∀ μ, LI len f μ → GL gL_law (rm (L + 40) c0 s0) K (cc + 7) (ss + 1000) 1407 [some (.ref 0), some (.ref 1), some (.ref 18), some (.int (nI p))] [] μ) : GL gL_law (rm (L + 40) c0 s0) K cc ss 679 [some (.ref 0), some (.ref 1), some (.ref 18), some (.int (nI p))] [] (mX (u, (len, f), mC y, po) x) := by
  refine gl_aload_n dL_law_679 rfl ?_
  refine gl_aload_n dL_law_680 rfl ?_
  refine gl_iload_n dL_law_681 rfl ?_
  refine gl_iconst (v := nI 1) dL_law_682 (by decide) ?_
  refine gl_iadd dL_law_683 ?_
  refine gl_sld (j := p + 1) dL_law_684 (by rw [nI_add]) (show p + 1 < len by omega) (show len < 2147483648 by omega) ?_
  refine gl_aload_n dL_law_685 rfl ?_
  refine gl_iload_n dL_law_686 rfl ?_
  refine gl_iconst (v := nI 2) dL_law_687 (by decide) ?_
  refine gl_iadd dL_law_688 ?_
  refine gl_sld (j := p + 2) dL_law_689 (by rw [nI_add]) (show p + 2 < len by omega) (show len < 2147483648 by omega) ?_
  refine gl_callV (x_shelve L hV (f (p + 1)) (f (p + 2))) dL_law_690 q711 q712 q713 q74 q714 rfl hX0_shelve rfl (rfl : vwCl[0]? = some (RX0, TX0, 30)) rfl rfl (rmOk (by omega) rfl) ⟨by first | exact Nat.le_refl _ | exact Nat.zero_le _ | decide | (dsimp only [rm]; omega), by first | exact Nat.le_refl _ | exact Nat.zero_le _ | decide | (dsimp only [rm]; omega)⟩ ?_
  rintro _ _ ⟨rfl, ⟨u', sc', fm', po'⟩, x', τ', n', m', t', rfl, ⟨hs', hm'⟩, hV'⟩
  have hs' : sc' = (len, f) := hs'
  have hm' : fm' = mC y := hm'
  subst hs'
  subst hm'
  refine gl_mem (μ1 := mM (u', (len, f), xC x', po') y) rfl ?_
  refine gl_aload_n dL_law_693 rfl ?_
  refine gl_aload_n dL_law_694 rfl ?_
  refine gl_iload_n dL_law_695 rfl ?_
  refine gl_iconst (v := nI 1) dL_law_696 (by decide) ?_
  refine gl_iadd dL_law_697 ?_
  refine gl_sld (j := p + 1) dL_law_698 (by rw [nI_add]) (show p + 1 < len by omega) (show len < 2147483648 by omega) ?_
  refine gl_aload_n dL_law_699 rfl ?_
  refine gl_iload_n dL_law_700 rfl ?_
  refine gl_iconst (v := nI 2) dL_law_701 (by decide) ?_
  refine gl_iadd dL_law_702 ?_
  refine gl_sld (j := p + 2) dL_law_703 (by rw [nI_add]) (show p + 2 < len by omega) (show len < 2147483648 by omega) ?_
  refine gl_callV (m_shelve L (u', (len, f), xC x', po') y hV.lb (f (p + 1)) (f (p + 2))) dL_law_704 q1215 q1216 q1217 q75 q1218 rfl hX1_shelve rfl (rfl : vwCl[1]? = some (RX1, TX1, 21)) rfl rfl (rmOk (by omega) rfl) ⟨by first | exact Nat.le_refl _ | exact Nat.zero_le _ | decide | (dsimp only [rm]; omega), by first | exact Nat.le_refl _ | exact Nat.zero_le _ | decide | (dsimp only [rm]; omega)⟩ (rt1 ?_)
  exact gl_icmp_eq (tgt := 1407) dL_law_707 (by decide) (fun _ => gl_wid (by omega) (by omega) (kk _ (LI.mk hV'))) (fun h => absurd rfl h)
theorem lc_age (hV : RV (u, (len, f), mC y, po) τ x y n m t) (hp : p + 6 ≤ len) (hl : len ≤ 384) (hc : cc + 7 ≤ c0) (hs : ss + 1000 ≤ s0) (kk : ∀ μ, LI len f μ → GL gL_law (rm (L + 40) c0 s0) K (cc + 7) (ss + 1000) 1407 [some (.ref 0), some (.ref 1), some (.ref 18), some (.int (nI p))] [] μ) : GL gL_law (rm (L + 40) c0 s0) K cc ss 712 [some (.ref 0), some (.ref 1), some (.ref 18), some (.int (nI p))] [] (mX (u, (len, f), mC y, po) x) := by
  refine gl_aload_n dL_law_712 rfl ?_
  refine gl_aload_n dL_law_713 rfl ?_
  refine gl_iload_n dL_law_714 rfl ?_
  refine gl_iconst (v := nI 1) dL_law_715 (by decide) ?_
  refine gl_iadd dL_law_716 ?_
  refine gl_sld (j := p + 1) dL_law_717 (by rw [nI_add]) (show p + 1 < len by omega) (show len < 2147483648 by omega) ?_
  refine gl_aload_n dL_law_718 rfl ?_
  refine gl_iload_n dL_law_719 rfl ?_
  refine gl_iconst (v := nI 2) dL_law_720 (by decide) ?_
  refine gl_iadd dL_law_721 ?_
  refine gl_sld (j := p + 2) dL_law_722 (by rw [nI_add]) (show p + 2 < len by omega) (show len < 2147483648 by omega) ?_
  refine gl_callV (x_age L hV (f (p + 1)) (f (p + 2))) dL_law_723 q715 q716 q717 q74 q718 rfl hX0_age rfl (rfl : vwCl[0]? = some (RX0, TX0, 30)) rfl rfl (rmOk (by omega) rfl) ⟨by first | exact Nat.le_refl _ | exact Nat.zero_le _ | decide | (dsimp only [rm]; omega), by first | exact Nat.le_refl _ | exact Nat.zero_le _ | decide | (dsimp only [rm]; omega)⟩ ?_
  rintro _ _ ⟨rfl, ⟨u', sc', fm', po'⟩, x', τ', n', m', t', rfl, ⟨hs', hm'⟩, hV'⟩
  have hs' : sc' = (len, f) := hs'
  have hm' : fm' = mC y := hm'
  subst hs'
  subst hm'
  refine gl_mem (μ1 := mM (u', (len, f), xC x', po') y) rfl ?_
  refine gl_aload_n dL_law_726 rfl ?_
  refine gl_aload_n dL_law_727 rfl ?_
  refine gl_iload_n dL_law_728 rfl ?_
  refine gl_iconst (v := nI 1) dL_law_729 (by decide) ?_
  refine gl_iadd dL_law_730 ?_
  refine gl_sld (j := p + 1) dL_law_731 (by rw [nI_add]) (show p + 1 < len by omega) (show len < 2147483648 by omega) ?_
  refine gl_aload_n dL_law_732 rfl ?_
  refine gl_iload_n dL_law_733 rfl ?_
  refine gl_iconst (v := nI 2) dL_law_734 (by decide) ?_
  refine gl_iadd dL_law_735 ?_
  refine gl_sld (j := p + 2) dL_law_736 (by rw [nI_add]) (show p + 2 < len by omega) (show len < 2147483648 by omega) ?_
  refine gl_callV (m_age L (u', (len, f), xC x', po') y hV.lb (f (p + 1)) (f (p + 2))) dL_law_737 q1223 q1224 q1225 q75 q1226 rfl hX1_age rfl (rfl : vwCl[1]? = some (RX1, TX1, 21)) rfl rfl (rmOk (by omega) rfl) ⟨by first | exact Nat.le_refl _ | exact Nat.zero_le _ | decide | (dsimp only [rm]; omega), by first | exact Nat.le_refl _ | exact Nat.zero_le _ | decide | (dsimp only [rm]; omega)⟩ (rt1 ?_)
  exact gl_icmp_eq (tgt := 1407) dL_law_740 (by decide) (fun _ => gl_wid (by omega) (by omega) (kk _ (LI.mk hV'))) (fun h => absurd rfl h)
theorem lc_truth (hV : RV (u, (len, f), mC y, po) τ x y n m t) (hp : p + 6 ≤ len) (hl : len ≤ 384) (hc : cc + 7 ≤ c0) (hs : ss + 1000 ≤ s0) (kk : ∀ μ, LI len f μ → GL gL_law (rm (L + 40) c0 s0) K (cc + 7) (ss + 1000) 1407 [some (.ref 0), some (.ref 1), some (.ref 18), some (.int (nI p))] [] μ) : GL gL_law (rm (L + 40) c0 s0) K cc ss 745 [some (.ref 0), some (.ref 1), some (.ref 18), some (.int (nI p))] [] (mX (u, (len, f), mC y, po) x) := by
  refine gl_aload_n dL_law_745 rfl ?_
  refine gl_aload_n dL_law_746 rfl ?_
  refine gl_iload_n dL_law_747 rfl ?_
  refine gl_iconst (v := nI 1) dL_law_748 (by decide) ?_
  refine gl_iadd dL_law_749 ?_
  refine gl_sld (j := p + 1) dL_law_750 (by rw [nI_add]) (show p + 1 < len by omega) (show len < 2147483648 by omega) ?_
  refine gl_aload_n dL_law_751 rfl ?_
  refine gl_iload_n dL_law_752 rfl ?_
  refine gl_iconst (v := nI 2) dL_law_753 (by decide) ?_
  refine gl_iadd dL_law_754 ?_
  refine gl_sld (j := p + 2) dL_law_755 (by rw [nI_add]) (show p + 2 < len by omega) (show len < 2147483648 by omega) ?_
  refine gl_callV (x_truth L hV (f (p + 1)) (f (p + 2))) dL_law_756 q719 q720 q721 q74 q722 rfl hX0_truth rfl (rfl : vwCl[0]? = some (RX0, TX0, 30)) rfl rfl (rmOk (by omega) rfl) ⟨by first | exact Nat.le_refl _ | exact Nat.zero_le _ | decide | (dsimp only [rm]; omega), by first | exact Nat.le_refl _ | exact Nat.zero_le _ | decide | (dsimp only [rm]; omega)⟩ ?_
  rintro _ _ ⟨rfl, ⟨u', sc', fm', po'⟩, x', τ', n', m', t', rfl, ⟨hs', hm'⟩, hV'⟩
  have hs' : sc' = (len, f) := hs'
  have hm' : fm' = mC y := hm'
  subst hs'
  subst hm'
  refine gl_mem (μ1 := mM (u', (len, f), xC x', po') y) rfl ?_
  refine gl_aload_n dL_law_759 rfl ?_
  refine gl_aload_n dL_law_760 rfl ?_
  refine gl_iload_n dL_law_761 rfl ?_
  refine gl_iconst (v := nI 1) dL_law_762 (by decide) ?_
  refine gl_iadd dL_law_763 ?_
  refine gl_sld (j := p + 1) dL_law_764 (by rw [nI_add]) (show p + 1 < len by omega) (show len < 2147483648 by omega) ?_
  refine gl_aload_n dL_law_765 rfl ?_
  refine gl_iload_n dL_law_766 rfl ?_
  refine gl_iconst (v := nI 2) dL_law_767 (by decide) ?_
  refine gl_iadd dL_law_768 ?_
  refine gl_sld (j := p + 2) dL_law_769 (by rw [nI_add]) (show p + 2 < len by omega) (show len < 2147483648 by omega) ?_
  refine gl_callV (m_truth L (u', (len, f), xC x', po') y hV.lb (f (p + 1)) (f (p + 2))) dL_law_770 q1228 q1229 q1230 q75 q1231 rfl hX1_truth rfl (rfl : vwCl[1]? = some (RX1, TX1, 21)) rfl rfl (rmOk (by omega) rfl) ⟨by first | exact Nat.le_refl _ | exact Nat.zero_le _ | decide | (dsimp only [rm]; omega), by first | exact Nat.le_refl _ | exact Nat.zero_le _ | decide | (dsimp only [rm]; omega)⟩ (rt1 ?_)
  exact gl_icmp_eq (tgt := 1407) dL_law_773 (by decide) (fun _ => gl_wid (by omega) (by omega) (kk _ (LI.mk hV'))) (fun h => absurd rfl h)
theorem lc_fits (hV : RV (u, (len, f), mC y, po) τ x y n m t) (hp : p + 6 ≤ len) (hl : len ≤ 384) (hc : cc + 7 ≤ c0) (hs : ss + 1000 ≤ s0) (kk : ∀ μ, LI len f μ → GL gL_law (rm (L + 40) c0 s0) K (cc + 7) (ss + 1000) 1407 [some (.ref 0), some (.ref 1), some (.ref 18), some (.int (nI p))] [] μ) : GL gL_law (rm (L + 40) c0 s0) K cc ss 778 [some (.ref 0), some (.ref 1), some (.ref 18), some (.int (nI p))] [] (mX (u, (len, f), mC y, po) x) := by
  refine gl_aload_n dL_law_778 rfl ?_
  refine gl_aload_n dL_law_779 rfl ?_
  refine gl_iload_n dL_law_780 rfl ?_
  refine gl_iconst (v := nI 1) dL_law_781 (by decide) ?_
  refine gl_iadd dL_law_782 ?_
  refine gl_sld (j := p + 1) dL_law_783 (by rw [nI_add]) (show p + 1 < len by omega) (show len < 2147483648 by omega) ?_
  refine gl_callV (x_fits L hV (f (p + 1))) dL_law_784 q723 q724 q725 q74 q726 rfl hX0_fits rfl (rfl : vwCl[0]? = some (RX0, TX0, 30)) rfl rfl (rmOk (by omega) rfl) ⟨by first | exact Nat.le_refl _ | exact Nat.zero_le _ | decide | (dsimp only [rm]; omega), by first | exact Nat.le_refl _ | exact Nat.zero_le _ | decide | (dsimp only [rm]; omega)⟩ ?_
  rintro _ _ ⟨rfl, ⟨u', sc', fm', po'⟩, x', τ', n', m', t', rfl, ⟨hs', hm'⟩, hV'⟩
  have hs' : sc' = (len, f) := hs'
  have hm' : fm' = mC y := hm'
  subst hs'
  subst hm'
  refine gl_mem (μ1 := mM (u', (len, f), xC x', po') y) rfl ?_
  refine gl_aload_n dL_law_787 rfl ?_
  refine gl_aload_n dL_law_788 rfl ?_
  refine gl_iload_n dL_law_789 rfl ?_
  refine gl_iconst (v := nI 1) dL_law_790 (by decide) ?_
  refine gl_iadd dL_law_791 ?_
  refine gl_sld (j := p + 1) dL_law_792 (by rw [nI_add]) (show p + 1 < len by omega) (show len < 2147483648 by omega) ?_
  refine gl_callV (m_fits L (u', (len, f), xC x', po') y hV.lb (f (p + 1))) dL_law_793 q1232 q1233 q1234 q75 q1235 rfl hX1_fits rfl (rfl : vwCl[1]? = some (RX1, TX1, 21)) rfl rfl (rmOk (by omega) rfl) ⟨by first | exact Nat.le_refl _ | exact Nat.zero_le _ | decide | (dsimp only [rm]; omega), by first | exact Nat.le_refl _ | exact Nat.zero_le _ | decide | (dsimp only [rm]; omega)⟩ (rt1 ?_)
  exact gl_icmp_eq (tgt := 1407) dL_law_796 (by decide) (fun _ => gl_wid (by omega) (by omega) (kk _ (LI.mk hV'))) (fun h => absurd rfl h)
theorem lc_take (hV : RV (u, (len, f), mC y, po) τ x y n m t) (hp : p + 6 ≤ len) (hl : len ≤ 384) (hc : cc + 7 ≤ c0) (hs : ss + 1000 ≤ s0) (kk : ∀ μ, LI len f μ → GL gL_law (rm (L + 40) c0 s0) K (cc + 7) (ss + 1000) 1407 [some (.ref 0), some (.ref 1), some (.ref 18), some (.int (nI p))] [] μ) : GL gL_law (rm (L + 40) c0 s0) K cc ss 801 [some (.ref 0), some (.ref 1), some (.ref 18), some (.int (nI p))] [] (mX (u, (len, f), mC y, po) x) := by
  refine gl_aload_n dL_law_801 rfl ?_
  refine gl_aload_n dL_law_802 rfl ?_
  refine gl_iload_n dL_law_803 rfl ?_
  refine gl_iconst (v := nI 1) dL_law_804 (by decide) ?_
  refine gl_iadd dL_law_805 ?_
  refine gl_sld (j := p + 1) dL_law_806 (by rw [nI_add]) (show p + 1 < len by omega) (show len < 2147483648 by omega) ?_
  refine gl_aload_n dL_law_807 rfl ?_
  refine gl_iload_n dL_law_808 rfl ?_
  refine gl_iconst (v := nI 2) dL_law_809 (by decide) ?_
  refine gl_iadd dL_law_810 ?_
  refine gl_sld (j := p + 2) dL_law_811 (by rw [nI_add]) (show p + 2 < len by omega) (show len < 2147483648 by omega) ?_
  refine gl_callV (x_take L hV (f (p + 1)) (f (p + 2))) dL_law_812 q731 q732 q733 q74 q734 rfl hX0_take rfl (rfl : vwCl[0]? = some (RX0, TX0, 30)) rfl rfl (rmOk (by omega) rfl) ⟨by first | exact Nat.le_refl _ | exact Nat.zero_le _ | decide | (dsimp only [rm]; omega), by first | exact Nat.le_refl _ | exact Nat.zero_le _ | decide | (dsimp only [rm]; omega)⟩ ?_
  rintro _ _ ⟨rfl, ⟨u', sc', fm', po'⟩, x', τ', n', m', t', rfl, ⟨hs', hm'⟩, hV'⟩
  have hs' : sc' = (len, f) := hs'
  have hm' : fm' = mC y := hm'
  subst hs'
  subst hm'
  refine gl_mem (μ1 := mM (u', (len, f), xC x', po') y) rfl ?_
  refine gl_aload_n dL_law_815 rfl ?_
  refine gl_aload_n dL_law_816 rfl ?_
  refine gl_iload_n dL_law_817 rfl ?_
  refine gl_iconst (v := nI 1) dL_law_818 (by decide) ?_
  refine gl_iadd dL_law_819 ?_
  refine gl_sld (j := p + 1) dL_law_820 (by rw [nI_add]) (show p + 1 < len by omega) (show len < 2147483648 by omega) ?_
  refine gl_aload_n dL_law_821 rfl ?_
  refine gl_iload_n dL_law_822 rfl ?_
  refine gl_iconst (v := nI 2) dL_law_823 (by decide) ?_
  refine gl_iadd dL_law_824 ?_
  refine gl_sld (j := p + 2) dL_law_825 (by rw [nI_add]) (show p + 2 < len by omega) (show len < 2147483648 by omega) ?_
  refine gl_callV (m_take L (u', (len, f), xC x', po') y hV.lb (f (p + 1)) (f (p + 2))) dL_law_826 q1236 q1237 q1238 q75 q1239 rfl hX1_take rfl (rfl : vwCl[1]? = some (RX1, TX1, 21)) rfl rfl (rmOk (by omega) rfl) ⟨by first | exact Nat.le_refl _ | exact Nat.zero_le _ | decide | (dsimp only [rm]; omega), by first | exact Nat.le_refl _ | exact Nat.zero_le _ | decide | (dsimp only [rm]; omega)⟩ (rt1 ?_)
  exact gl_icmp_eq (tgt := 1407) dL_law_829 (by decide) (fun _ => gl_wid (by omega) (by omega) (kk _ (LI.mk hV'))) (fun h => absurd rfl h)
theorem lc_bring (hV : RV (u, (len, f), mC y, po) τ x y n m t) (hp : p + 6 ≤ len) (hl : len ≤ 384) (hc : cc + 7 ≤ c0) (hs : ss + 1000 ≤ s0) (kk : ∀ μ, LI len f μ → GL gL_law (rm (L + 40) c0 s0) K (cc + 7) (ss + 1000) 1407 [some (.ref 0), some (.ref 1), some (.ref 18), some (.int (nI p))] [] μ) : GL gL_law (rm (L + 40) c0 s0) K cc ss 834 [some (.ref 0), some (.ref 1), some (.ref 18), some (.int (nI p))] [] (mX (u, (len, f), mC y, po) x) := by
  refine gl_aload_n dL_law_834 rfl ?_
  refine gl_aload_n dL_law_835 rfl ?_
  refine gl_iload_n dL_law_836 rfl ?_
  refine gl_iconst (v := nI 1) dL_law_837 (by decide) ?_
  refine gl_iadd dL_law_838 ?_
  refine gl_sld (j := p + 1) dL_law_839 (by rw [nI_add]) (show p + 1 < len by omega) (show len < 2147483648 by omega) ?_
  refine gl_callV (x_bring L hV (f (p + 1))) dL_law_840 q747 q748 q749 q74 q750 rfl hX0_bring rfl (rfl : vwCl[0]? = some (RX0, TX0, 30)) rfl rfl (rmOk (by omega) rfl) ⟨by first | exact Nat.le_refl _ | exact Nat.zero_le _ | decide | (dsimp only [rm]; omega), by first | exact Nat.le_refl _ | exact Nat.zero_le _ | decide | (dsimp only [rm]; omega)⟩ ?_
  rintro _ _ ⟨rfl, ⟨u', sc', fm', po'⟩, x', τ', n', m', t', rfl, ⟨hs', hm'⟩, hV'⟩
  have hs' : sc' = (len, f) := hs'
  have hm' : fm' = mC y := hm'
  subst hs'
  subst hm'
  refine gl_mem (μ1 := mM (u', (len, f), xC x', po') y) rfl ?_
  refine gl_aload_n dL_law_843 rfl ?_
  refine gl_aload_n dL_law_844 rfl ?_
  refine gl_iload_n dL_law_845 rfl ?_
  refine gl_iconst (v := nI 1) dL_law_846 (by decide) ?_
  refine gl_iadd dL_law_847 ?_
  refine gl_sld (j := p + 1) dL_law_848 (by rw [nI_add]) (show p + 1 < len by omega) (show len < 2147483648 by omega) ?_
  refine gl_callV (m_bring L (u', (len, f), xC x', po') y hV.lb (f (p + 1))) dL_law_849 q1256 q1257 q1258 q75 q1259 rfl hX1_bring rfl (rfl : vwCl[1]? = some (RX1, TX1, 21)) rfl rfl (rmOk (by omega) rfl) ⟨by first | exact Nat.le_refl _ | exact Nat.zero_le _ | decide | (dsimp only [rm]; omega), by first | exact Nat.le_refl _ | exact Nat.zero_le _ | decide | (dsimp only [rm]; omega)⟩ (rt1 ?_)
  exact gl_icmp_eq (tgt := 1407) dL_law_852 (by decide) (fun _ => gl_wid (by omega) (by omega) (kk _ (LI.mk hV'))) (fun h => absurd rfl h)
theorem lc_undo (hV : RV (u, (len, f), mC y, po) τ x y n m t) (hp : p + 6 ≤ len) (hl : len ≤ 384) (hc : cc + 7 ≤ c0) (hs : ss + 1000 ≤ s0) (kk : ∀ μ, LI len f μ → GL gL_law (rm (L + 40) c0 s0) K (cc + 7) (ss + 1000) 1407 [some (.ref 0), some (.ref 1), some (.ref 18), some (.int (nI p))] [] μ) : GL gL_law (rm (L + 40) c0 s0) K cc ss 857 [some (.ref 0), some (.ref 1), some (.ref 18), some (.int (nI p))] [] (mX (u, (len, f), mC y, po) x) := by
  refine gl_aload_n dL_law_857 rfl ?_
  refine gl_aload_n dL_law_858 rfl ?_
  refine gl_iload_n dL_law_859 rfl ?_
  refine gl_iconst (v := nI 1) dL_law_860 (by decide) ?_
  refine gl_iadd dL_law_861 ?_
  refine gl_sld (j := p + 1) dL_law_862 (by rw [nI_add]) (show p + 1 < len by omega) (show len < 2147483648 by omega) ?_
  refine gl_callV (x_undo L hV (f (p + 1))) dL_law_863 q751 q752 q753 q74 q754 rfl hX0_undo rfl (rfl : vwCl[0]? = some (RX0, TX0, 30)) rfl rfl (rmOk (by omega) rfl) ⟨by first | exact Nat.le_refl _ | exact Nat.zero_le _ | decide | (dsimp only [rm]; omega), by first | exact Nat.le_refl _ | exact Nat.zero_le _ | decide | (dsimp only [rm]; omega)⟩ ?_
  rintro _ _ ⟨rfl, ⟨u', sc', fm', po'⟩, x', τ', n', m', t', rfl, ⟨hs', hm'⟩, hV'⟩
  have hs' : sc' = (len, f) := hs'
  have hm' : fm' = mC y := hm'
  subst hs'
  subst hm'
  refine gl_mem (μ1 := mM (u', (len, f), xC x', po') y) rfl ?_
  refine gl_aload_n dL_law_866 rfl ?_
  refine gl_aload_n dL_law_867 rfl ?_
  refine gl_iload_n dL_law_868 rfl ?_
  refine gl_iconst (v := nI 1) dL_law_869 (by decide) ?_
  refine gl_iadd dL_law_870 ?_
  refine gl_sld (j := p + 1) dL_law_871 (by rw [nI_add]) (show p + 1 < len by omega) (show len < 2147483648 by omega) ?_
  refine gl_callV (m_undo L (u', (len, f), xC x', po') y hV.lb (f (p + 1))) dL_law_872 q1260 q1261 q1262 q75 q1263 rfl hX1_undo rfl (rfl : vwCl[1]? = some (RX1, TX1, 21)) rfl rfl (rmOk (by omega) rfl) ⟨by first | exact Nat.le_refl _ | exact Nat.zero_le _ | decide | (dsimp only [rm]; omega), by first | exact Nat.le_refl _ | exact Nat.zero_le _ | decide | (dsimp only [rm]; omega)⟩ (rt1 ?_)
  exact gl_icmp_eq (tgt := 1407) dL_law_875 (by decide) (fun _ => gl_wid (by omega) (by omega) (kk _ (LI.mk hV'))) (fun h => absurd rfl h)
theorem lc_right (hV : RV (u, (len, f), mC y, po) τ x y n m t) (hp : p + 6 ≤ len) (hl : len ≤ 384) (hc : cc + 7 ≤ c0) (hs : ss + 1000 ≤ s0) (kk : ∀ μ, LI len f μ → GL gL_law (rm (L + 40) c0 s0) K (cc + 7) (ss + 1000) 1407 [some (.ref 0), some (.ref 1), some (.ref 18), some (.int (nI p))] [] μ) : GL gL_law (rm (L + 40) c0 s0) K cc ss 880 [some (.ref 0), some (.ref 1), some (.ref 18), some (.int (nI p))] [] (mX (u, (len, f), mC y, po) x) := by
  refine gl_aload_n dL_law_880 rfl ?_
  refine gl_callV (x_right L hV) dL_law_881 q755 q756 q757 q74 q758 rfl hX0_right rfl (rfl : vwCl[0]? = some (RX0, TX0, 30)) rfl rfl (rmOk (by omega) rfl) ⟨by first | exact Nat.le_refl _ | exact Nat.zero_le _ | decide | (dsimp only [rm]; omega), by first | exact Nat.le_refl _ | exact Nat.zero_le _ | decide | (dsimp only [rm]; omega)⟩ ?_
  rintro _ _ ⟨rfl, ⟨u', sc', fm', po'⟩, x', τ', n', m', t', rfl, ⟨hs', hm'⟩, hV'⟩
  have hs' : sc' = (len, f) := hs'
  have hm' : fm' = mC y := hm'
  subst hs'
  subst hm'
  refine gl_mem (μ1 := mM (u', (len, f), xC x', po') y) rfl ?_
  refine gl_aload_n dL_law_884 rfl ?_
  refine gl_callV (m_right L (u', (len, f), xC x', po') y hV.lb) dL_law_885 q1264 q1265 q1266 q75 q1267 rfl hX1_right rfl (rfl : vwCl[1]? = some (RX1, TX1, 21)) rfl rfl (rmOk (by omega) rfl) ⟨by first | exact Nat.le_refl _ | exact Nat.zero_le _ | decide | (dsimp only [rm]; omega), by first | exact Nat.le_refl _ | exact Nat.zero_le _ | decide | (dsimp only [rm]; omega)⟩ (rt1 ?_)
  exact gl_icmp_eq (tgt := 1407) dL_law_888 (by decide) (fun _ => gl_wid (by omega) (by omega) (kk _ (LI.mk hV'))) (fun h => absurd rfl h)
theorem lc_keep (hV : RV (u, (len, f), mC y, po) τ x y n m t) (hp : p + 6 ≤ len) (hl : len ≤ 384) (hc : cc + 7 ≤ c0) (hs : ss + 1000 ≤ s0) (kk : ∀ μ, LI len f μ → GL gL_law (rm (L + 40) c0 s0) K (cc + 7) (ss + 1000) 1407 [some (.ref 0), some (.ref 1), some (.ref 18), some (.int (nI p))] [] μ) : GL gL_law (rm (L + 40) c0 s0) K cc ss 893 [some (.ref 0), some (.ref 1), some (.ref 18), some (.int (nI p))] [] (mX (u, (len, f), mC y, po) x) := by
  refine gl_aload_n dL_law_893 rfl ?_
  refine gl_aload_n dL_law_894 rfl ?_
  refine gl_iload_n dL_law_895 rfl ?_
  refine gl_iconst (v := nI 1) dL_law_896 (by decide) ?_
  refine gl_iadd dL_law_897 ?_
  refine gl_sld (j := p + 1) dL_law_898 (by rw [nI_add]) (show p + 1 < len by omega) (show len < 2147483648 by omega) ?_
  refine gl_callV (x_keep L hV (f (p + 1))) dL_law_899 q763 q764 q765 q74 q766 rfl hX0_keep rfl (rfl : vwCl[0]? = some (RX0, TX0, 30)) rfl rfl (rmOk (by omega) rfl) ⟨by first | exact Nat.le_refl _ | exact Nat.zero_le _ | decide | (dsimp only [rm]; omega), by first | exact Nat.le_refl _ | exact Nat.zero_le _ | decide | (dsimp only [rm]; omega)⟩ ?_
  rintro _ _ ⟨rfl, ⟨u', sc', fm', po'⟩, x', τ', n', m', t', rfl, ⟨hs', hm'⟩, hV'⟩
  have hs' : sc' = (len, f) := hs'
  have hm' : fm' = mC y := hm'
  subst hs'
  subst hm'
  refine gl_mem (μ1 := mM (u', (len, f), xC x', po') y) rfl ?_
  refine gl_aload_n dL_law_902 rfl ?_
  refine gl_aload_n dL_law_903 rfl ?_
  refine gl_iload_n dL_law_904 rfl ?_
  refine gl_iconst (v := nI 1) dL_law_905 (by decide) ?_
  refine gl_iadd dL_law_906 ?_
  refine gl_sld (j := p + 1) dL_law_907 (by rw [nI_add]) (show p + 1 < len by omega) (show len < 2147483648 by omega) ?_
  refine gl_callV (m_keep L (u', (len, f), xC x', po') y (f (p + 1))) dL_law_908 q1272 q1273 q1274 q75 q1275 rfl hX1_keep rfl (rfl : vwCl[1]? = some (RX1, TX1, 21)) rfl rfl (rmOk (by omega) rfl) ⟨by first | exact Nat.le_refl _ | exact Nat.zero_le _ | decide | (dsimp only [rm]; omega), by first | exact Nat.le_refl _ | exact Nat.zero_le _ | decide | (dsimp only [rm]; omega)⟩ (rt1 ?_)
  exact gl_icmp_eq (tgt := 1407) dL_law_911 (by decide) (fun _ => gl_wid (by omega) (by omega) (kk _ (LI.mk hV'))) (fun h => absurd rfl h)
theorem lc_on (hV : RV (u, (len, f), mC y, po) τ x y n m t) (hp : p + 6 ≤ len) (hl : len ≤ 384) (hc : cc + 7 ≤ c0) (hs : ss + 1000 ≤ s0) (kk : ∀ μ, LI len f μ → GL gL_law (rm (L + 40) c0 s0) K (cc + 7) (ss + 1000) 1407 [some (.ref 0), some (.ref 1), some (.ref 18), some (.int (nI p))] [] μ) : GL gL_law (rm (L + 40) c0 s0) K cc ss 916 [some (.ref 0), some (.ref 1), some (.ref 18), some (.int (nI p))] [] (mX (u, (len, f), mC y, po) x) := by
  refine gl_aload_n dL_law_916 rfl ?_
  refine gl_aload_n dL_law_917 rfl ?_
  refine gl_iload_n dL_law_918 rfl ?_
  refine gl_iconst (v := nI 1) dL_law_919 (by decide) ?_
  refine gl_iadd dL_law_920 ?_
  refine gl_sld (j := p + 1) dL_law_921 (by rw [nI_add]) (show p + 1 < len by omega) (show len < 2147483648 by omega) ?_
  refine gl_callV (x_on L hV (f (p + 1))) dL_law_922 q803 q804 q805 q74 q806 rfl hX0_on rfl (rfl : vwCl[0]? = some (RX0, TX0, 30)) rfl rfl (rmOk (by omega) rfl) ⟨by first | exact Nat.le_refl _ | exact Nat.zero_le _ | decide | (dsimp only [rm]; omega), by first | exact Nat.le_refl _ | exact Nat.zero_le _ | decide | (dsimp only [rm]; omega)⟩ ?_
  rintro _ _ ⟨rfl, ⟨u', sc', fm', po'⟩, x', τ', n', m', t', rfl, ⟨hs', hm'⟩, hV'⟩
  have hs' : sc' = (len, f) := hs'
  have hm' : fm' = mC y := hm'
  subst hs'
  subst hm'
  refine gl_mem (μ1 := mM (u', (len, f), xC x', po') y) rfl ?_
  refine gl_aload_n dL_law_925 rfl ?_
  refine gl_aload_n dL_law_926 rfl ?_
  refine gl_iload_n dL_law_927 rfl ?_
  refine gl_iconst (v := nI 1) dL_law_928 (by decide) ?_
  refine gl_iadd dL_law_929 ?_
  refine gl_sld (j := p + 1) dL_law_930 (by rw [nI_add]) (show p + 1 < len by omega) (show len < 2147483648 by omega) ?_
  refine gl_callV (m_on L (u', (len, f), xC x', po') y (f (p + 1))) dL_law_931 q1277 q1278 q1279 q75 q1280 rfl hX1_on rfl (rfl : vwCl[1]? = some (RX1, TX1, 21)) rfl rfl (rmOk (by omega) rfl) ⟨by first | exact Nat.le_refl _ | exact Nat.zero_le _ | decide | (dsimp only [rm]; omega), by first | exact Nat.le_refl _ | exact Nat.zero_le _ | decide | (dsimp only [rm]; omega)⟩ (rt1 ?_)
  exact gl_icmp_eq (tgt := 1407) dL_law_934 (by decide) (fun _ => gl_wid (by omega) (by omega) (kk _ (LI.mk hV'))) (fun h => absurd rfl h)
theorem lc_match (hV : RV (u, (len, f), mC y, po) τ x y n m t) (hp : p + 6 ≤ len) (hl : len ≤ 384) (hc : cc + 7 ≤ c0) (hs : ss + 1000 ≤ s0) (kk : ∀ μ, LI len f μ → GL gL_law (rm (L + 40) c0 s0) K (cc + 7) (ss + 1000) 1407 [some (.ref 0), some (.ref 1), some (.ref 18), some (.int (nI p))] [] μ) : GL gL_law (rm (L + 40) c0 s0) K cc ss 939 [some (.ref 0), some (.ref 1), some (.ref 18), some (.int (nI p))] [] (mX (u, (len, f), mC y, po) x) := by
  refine gl_aload_n dL_law_939 rfl ?_
  refine gl_aload_n dL_law_940 rfl ?_
  refine gl_iload_n dL_law_941 rfl ?_
  refine gl_iconst (v := nI 1) dL_law_942 (by decide) ?_
  refine gl_iadd dL_law_943 ?_
  refine gl_sld (j := p + 1) dL_law_944 (by rw [nI_add]) (show p + 1 < len by omega) (show len < 2147483648 by omega) ?_
  refine gl_callV (x_match L hV (f (p + 1))) dL_law_945 q807 q808 q809 q74 q810 rfl hX0_match rfl (rfl : vwCl[0]? = some (RX0, TX0, 30)) rfl rfl (rmOk (by omega) rfl) ⟨by first | exact Nat.le_refl _ | exact Nat.zero_le _ | decide | (dsimp only [rm]; omega), by first | exact Nat.le_refl _ | exact Nat.zero_le _ | decide | (dsimp only [rm]; omega)⟩ ?_
  rintro _ _ ⟨rfl, ⟨u', sc', fm', po'⟩, x', τ', n', m', t', rfl, ⟨hs', hm'⟩, hV'⟩
  have hs' : sc' = (len, f) := hs'
  have hm' : fm' = mC y := hm'
  subst hs'
  subst hm'
  refine gl_mem (μ1 := mM (u', (len, f), xC x', po') y) rfl ?_
  refine gl_aload_n dL_law_948 rfl ?_
  refine gl_aload_n dL_law_949 rfl ?_
  refine gl_iload_n dL_law_950 rfl ?_
  refine gl_iconst (v := nI 1) dL_law_951 (by decide) ?_
  refine gl_iadd dL_law_952 ?_
  refine gl_sld (j := p + 1) dL_law_953 (by rw [nI_add]) (show p + 1 < len by omega) (show len < 2147483648 by omega) ?_
  refine gl_callV (m_match L (u', (len, f), xC x', po') y hV.lb (f (p + 1))) dL_law_954 q1281 q1282 q1283 q75 q1284 rfl hX1_match rfl (rfl : vwCl[1]? = some (RX1, TX1, 21)) rfl rfl (rmOk (by omega) rfl) ⟨by first | exact Nat.le_refl _ | exact Nat.zero_le _ | decide | (dsimp only [rm]; omega), by first | exact Nat.le_refl _ | exact Nat.zero_le _ | decide | (dsimp only [rm]; omega)⟩ ?_
  rintro _ _ ⟨A, rfl, rfl⟩
  exact gl_icmp_eq (tgt := 1407) dL_law_957 (by decide) (fun _ => gl_wid (by omega) (by omega) (kk _ (LI.mk (hV' A)))) (fun h => absurd rfl h)
theorem lc_wished (hV : RV (u, (len, f), mC y, po) τ x y n m t) (hp : p + 6 ≤ len) (hl : len ≤ 384) (hc : cc + 7 ≤ c0) (hs : ss + 1000 ≤ s0) (kk : ∀ μ, LI len f μ → GL gL_law (rm (L + 40) c0 s0) K (cc + 7) (ss + 1000) 1407 [some (.ref 0), some (.ref 1), some (.ref 18), some (.int (nI p))] [] μ) : GL gL_law (rm (L + 40) c0 s0) K cc ss 962 [some (.ref 0), some (.ref 1), some (.ref 18), some (.int (nI p))] [] (mX (u, (len, f), mC y, po) x) := by
  refine gl_aload_n dL_law_962 rfl ?_
  refine gl_aload_n dL_law_963 rfl ?_
  refine gl_iload_n dL_law_964 rfl ?_
  refine gl_iconst (v := nI 1) dL_law_965 (by decide) ?_
  refine gl_iadd dL_law_966 ?_
  refine gl_sld (j := p + 1) dL_law_967 (by rw [nI_add]) (show p + 1 < len by omega) (show len < 2147483648 by omega) ?_
  refine gl_callV (x_wished L hV (f (p + 1))) dL_law_968 q830 q831 q832 q74 q833 rfl hX0_wished rfl (rfl : vwCl[0]? = some (RX0, TX0, 30)) rfl rfl (rmOk (by omega) rfl) ⟨by first | exact Nat.le_refl _ | exact Nat.zero_le _ | decide | (dsimp only [rm]; omega), by first | exact Nat.le_refl _ | exact Nat.zero_le _ | decide | (dsimp only [rm]; omega)⟩ ?_
  rintro _ _ ⟨rfl, ⟨u', sc', fm', po'⟩, x', τ', n', m', t', rfl, ⟨hs', hm'⟩, hV'⟩
  have hs' : sc' = (len, f) := hs'
  have hm' : fm' = mC y := hm'
  subst hs'
  subst hm'
  refine gl_mem (μ1 := mM (u', (len, f), xC x', po') y) rfl ?_
  refine gl_aload_n dL_law_971 rfl ?_
  refine gl_aload_n dL_law_972 rfl ?_
  refine gl_iload_n dL_law_973 rfl ?_
  refine gl_iconst (v := nI 1) dL_law_974 (by decide) ?_
  refine gl_iadd dL_law_975 ?_
  refine gl_sld (j := p + 1) dL_law_976 (by rw [nI_add]) (show p + 1 < len by omega) (show len < 2147483648 by omega) ?_
  refine gl_callV (m_wished L (u', (len, f), xC x', po') y hV.lb (f (p + 1))) dL_law_977 q1302 q1303 q1304 q75 q1305 rfl hX1_wished rfl (rfl : vwCl[1]? = some (RX1, TX1, 21)) rfl rfl (rmOk (by omega) rfl) ⟨by first | exact Nat.le_refl _ | exact Nat.zero_le _ | decide | (dsimp only [rm]; omega), by first | exact Nat.le_refl _ | exact Nat.zero_le _ | decide | (dsimp only [rm]; omega)⟩ ?_
  rintro _ _ ⟨A, rfl, rfl⟩
  exact gl_icmp_eq (tgt := 1407) dL_law_980 (by decide) (fun _ => gl_wid (by omega) (by omega) (kk _ (LI.mk (hV' A)))) (fun h => absurd rfl h)
theorem lc_fullest (hV : RV (u, (len, f), mC y, po) τ x y n m t) (hp : p + 6 ≤ len) (hl : len ≤ 384) (hc : cc + 7 ≤ c0) (hs : ss + 1000 ≤ s0) (kk : ∀ μ, LI len f μ → GL gL_law (rm (L + 40) c0 s0) K (cc + 7) (ss + 1000) 1407 [some (.ref 0), some (.ref 1), some (.ref 18), some (.int (nI p))] [] μ) : GL gL_law (rm (L + 40) c0 s0) K cc ss 985 [some (.ref 0), some (.ref 1), some (.ref 18), some (.int (nI p))] [] (mX (u, (len, f), mC y, po) x) := by
  refine gl_aload_n dL_law_985 rfl ?_
  refine gl_callV (x_fullest L hV) dL_law_986 q834 q835 q836 q74 q837 rfl hX0_fullest rfl (rfl : vwCl[0]? = some (RX0, TX0, 30)) rfl rfl (rmOk (by omega) rfl) ⟨by first | exact Nat.le_refl _ | exact Nat.zero_le _ | decide | (dsimp only [rm]; omega), by first | exact Nat.le_refl _ | exact Nat.zero_le _ | decide | (dsimp only [rm]; omega)⟩ ?_
  rintro _ _ ⟨rfl, ⟨u', sc', fm', po'⟩, x', τ', n', m', t', rfl, ⟨hs', hm'⟩, hV'⟩
  have hs' : sc' = (len, f) := hs'
  have hm' : fm' = mC y := hm'
  subst hs'
  subst hm'
  refine gl_mem (μ1 := mM (u', (len, f), xC x', po') y) rfl ?_
  refine gl_aload_n dL_law_989 rfl ?_
  refine gl_callV (m_fullest L (u', (len, f), xC x', po') y hV.lb) dL_law_990 q1306 q1307 q1308 q75 q1309 rfl hX1_fullest rfl (rfl : vwCl[1]? = some (RX1, TX1, 21)) rfl rfl (rmOk (by omega) rfl) ⟨by first | exact Nat.le_refl _ | exact Nat.zero_le _ | decide | (dsimp only [rm]; omega), by first | exact Nat.le_refl _ | exact Nat.zero_le _ | decide | (dsimp only [rm]; omega)⟩ ?_
  rintro _ _ ⟨A, rfl, rfl⟩
  exact gl_icmp_eq (tgt := 1407) dL_law_993 (by decide) (fun _ => gl_wid (by omega) (by omega) (kk _ (LI.mk (hV' A)))) (fun h => absurd rfl h)
theorem lc_may (hV : RV (u, (len, f), mC y, po) τ x y n m t) (hp : p + 6 ≤ len) (hl : len ≤ 384) (hc : cc + 7 ≤ c0) (hs : ss + 1000 ≤ s0) (kk : ∀ μ, LI len f μ → GL gL_law (rm (L + 40) c0 s0) K (cc + 7) (ss + 1000) 1407 [some (.ref 0), some (.ref 1), some (.ref 18), some (.int (nI p))] [] μ) : GL gL_law (rm (L + 40) c0 s0) K cc ss 998 [some (.ref 0), some (.ref 1), some (.ref 18), some (.int (nI p))] [] (mX (u, (len, f), mC y, po) x) := by
  refine gl_aload_n dL_law_998 rfl ?_
  refine gl_aload_n dL_law_999 rfl ?_
  refine gl_iload_n dL_law_1000 rfl ?_
  refine gl_iconst (v := nI 1) dL_law_1001 (by decide) ?_
  refine gl_iadd dL_law_1002 ?_
  refine gl_sld (j := p + 1) dL_law_1003 (by rw [nI_add]) (show p + 1 < len by omega) (show len < 2147483648 by omega) ?_
  refine gl_callV (x_may L hV (f (p + 1))) dL_law_1004 q846 q847 q848 q74 q849 rfl hX0_may rfl (rfl : vwCl[0]? = some (RX0, TX0, 30)) rfl rfl (rmOk (by omega) rfl) ⟨by first | exact Nat.le_refl _ | exact Nat.zero_le _ | decide | (dsimp only [rm]; omega), by first | exact Nat.le_refl _ | exact Nat.zero_le _ | decide | (dsimp only [rm]; omega)⟩ ?_
  rintro _ _ ⟨rfl, ⟨u', sc', fm', po'⟩, x', τ', n', m', t', rfl, ⟨hs', hm'⟩, hV'⟩
  have hs' : sc' = (len, f) := hs'
  have hm' : fm' = mC y := hm'
  subst hs'
  subst hm'
  refine gl_mem (μ1 := mM (u', (len, f), xC x', po') y) rfl ?_
  refine gl_aload_n dL_law_1007 rfl ?_
  refine gl_aload_n dL_law_1008 rfl ?_
  refine gl_iload_n dL_law_1009 rfl ?_
  refine gl_iconst (v := nI 1) dL_law_1010 (by decide) ?_
  refine gl_iadd dL_law_1011 ?_
  refine gl_sld (j := p + 1) dL_law_1012 (by rw [nI_add]) (show p + 1 < len by omega) (show len < 2147483648 by omega) ?_
  refine gl_callV (m_may L (u', (len, f), xC x', po') y hV.lb (f (p + 1))) dL_law_1013 q1310 q1311 q1312 q75 q1313 rfl hX1_may rfl (rfl : vwCl[1]? = some (RX1, TX1, 21)) rfl rfl (rmOk (by omega) rfl) ⟨by first | exact Nat.le_refl _ | exact Nat.zero_le _ | decide | (dsimp only [rm]; omega), by first | exact Nat.le_refl _ | exact Nat.zero_le _ | decide | (dsimp only [rm]; omega)⟩ ?_
  rintro _ _ ⟨A, rfl, rfl⟩
  exact gl_icmp_eq (tgt := 1407) dL_law_1016 (by decide) (fun _ => gl_wid (by omega) (by omega) (kk _ (LI.mk (hV' A)))) (fun h => absurd rfl h)
theorem lc_sure (hV : RV (u, (len, f), mC y, po) τ x y n m t) (hp : p + 6 ≤ len) (hl : len ≤ 384) (hc : cc + 7 ≤ c0) (hs : ss + 1000 ≤ s0) (kk : ∀ μ, LI len f μ → GL gL_law (rm (L + 40) c0 s0) K (cc + 7) (ss + 1000) 1407 [some (.ref 0), some (.ref 1), some (.ref 18), some (.int (nI p))] [] μ) : GL gL_law (rm (L + 40) c0 s0) K cc ss 1021 [some (.ref 0), some (.ref 1), some (.ref 18), some (.int (nI p))] [] (mX (u, (len, f), mC y, po) x) := by
  refine gl_aload_n dL_law_1021 rfl ?_
  refine gl_aload_n dL_law_1022 rfl ?_
  refine gl_iload_n dL_law_1023 rfl ?_
  refine gl_iconst (v := nI 1) dL_law_1024 (by decide) ?_
  refine gl_iadd dL_law_1025 ?_
  refine gl_sld (j := p + 1) dL_law_1026 (by rw [nI_add]) (show p + 1 < len by omega) (show len < 2147483648 by omega) ?_
  refine gl_callV (x_sure L hV (f (p + 1))) dL_law_1027 q850 q851 q852 q74 q853 rfl hX0_sure rfl (rfl : vwCl[0]? = some (RX0, TX0, 30)) rfl rfl (rmOk (by omega) rfl) ⟨by first | exact Nat.le_refl _ | exact Nat.zero_le _ | decide | (dsimp only [rm]; omega), by first | exact Nat.le_refl _ | exact Nat.zero_le _ | decide | (dsimp only [rm]; omega)⟩ ?_
  rintro _ _ ⟨rfl, ⟨u', sc', fm', po'⟩, x', τ', n', m', t', rfl, ⟨hs', hm'⟩, hV'⟩
  have hs' : sc' = (len, f) := hs'
  have hm' : fm' = mC y := hm'
  subst hs'
  subst hm'
  refine gl_mem (μ1 := mM (u', (len, f), xC x', po') y) rfl ?_
  refine gl_aload_n dL_law_1030 rfl ?_
  refine gl_aload_n dL_law_1031 rfl ?_
  refine gl_iload_n dL_law_1032 rfl ?_
  refine gl_iconst (v := nI 1) dL_law_1033 (by decide) ?_
  refine gl_iadd dL_law_1034 ?_
  refine gl_sld (j := p + 1) dL_law_1035 (by rw [nI_add]) (show p + 1 < len by omega) (show len < 2147483648 by omega) ?_
  refine gl_callV (m_sure L (u', (len, f), xC x', po') y hV.lb (f (p + 1))) dL_law_1036 q1314 q1315 q1316 q75 q1317 rfl hX1_sure rfl (rfl : vwCl[1]? = some (RX1, TX1, 21)) rfl rfl (rmOk (by omega) rfl) ⟨by first | exact Nat.le_refl _ | exact Nat.zero_le _ | decide | (dsimp only [rm]; omega), by first | exact Nat.le_refl _ | exact Nat.zero_le _ | decide | (dsimp only [rm]; omega)⟩ ?_
  rintro _ _ ⟨A, rfl, rfl⟩
  exact gl_icmp_eq (tgt := 1407) dL_law_1039 (by decide) (fun _ => gl_wid (by omega) (by omega) (kk _ (LI.mk (hV' A)))) (fun h => absurd rfl h)
theorem lc_test (hV : RV (u, (len, f), mC y, po) τ x y n m t) (hp : p + 6 ≤ len) (hl : len ≤ 384) (hc : cc + 7 ≤ c0) (hs : ss + 1000 ≤ s0) (kk : ∀ μ, LI len f μ → GL gL_law (rm (L + 40) c0 s0) K (cc + 7) (ss + 1000) 1407 [some (.ref 0), some (.ref 1), some (.ref 18), some (.int (nI p))] [] μ) : GL gL_law (rm (L + 40) c0 s0) K cc ss 1044 [some (.ref 0), some (.ref 1), some (.ref 18), some (.int (nI p))] [] (mX (u, (len, f), mC y, po) x) := by
  refine gl_aload_n dL_law_1044 rfl ?_
  refine gl_callV (x_test L hV) dL_law_1045 q854 q855 q856 q74 q857 rfl hX0_test rfl (rfl : vwCl[0]? = some (RX0, TX0, 30)) rfl rfl (rmOk (by omega) rfl) ⟨by first | exact Nat.le_refl _ | exact Nat.zero_le _ | decide | (dsimp only [rm]; omega), by first | exact Nat.le_refl _ | exact Nat.zero_le _ | decide | (dsimp only [rm]; omega)⟩ ?_
  rintro _ _ ⟨rfl, ⟨u', sc', fm', po'⟩, x', τ', n', m', t', rfl, ⟨hs', hm'⟩, hV'⟩
  have hs' : sc' = (len, f) := hs'
  have hm' : fm' = mC y := hm'
  subst hs'
  subst hm'
  refine gl_mem (μ1 := mM (u', (len, f), xC x', po') y) rfl ?_
  refine gl_aload_n dL_law_1048 rfl ?_
  refine gl_callV (m_test L (u', (len, f), xC x', po') y hV.lb) dL_law_1049 q1318 q1319 q1320 q75 q1321 rfl hX1_test rfl (rfl : vwCl[1]? = some (RX1, TX1, 21)) rfl rfl (rmOk (by omega) rfl) ⟨by first | exact Nat.le_refl _ | exact Nat.zero_le _ | decide | (dsimp only [rm]; omega), by first | exact Nat.le_refl _ | exact Nat.zero_le _ | decide | (dsimp only [rm]; omega)⟩ ?_
  rintro _ _ ⟨A, rfl, rfl⟩
  exact gl_icmp_eq (tgt := 1407) dL_law_1052 (by decide) (fun _ => gl_wid (by omega) (by omega) (kk _ (LI.mk (hV' A)))) (fun h => absurd rfl h)
theorem lc_odds (hV : RV (u, (len, f), mC y, po) τ x y n m t) (hp : p + 6 ≤ len) (hl : len ≤ 384) (hc : cc + 7 ≤ c0) (hs : ss + 1000 ≤ s0) (kk : ∀ μ, LI len f μ → GL gL_law (rm (L + 40) c0 s0) K (cc + 7) (ss + 1000) 1407 [some (.ref 0), some (.ref 1), some (.ref 18), some (.int (nI p))] [] μ) : GL gL_law (rm (L + 40) c0 s0) K cc ss 1057 [some (.ref 0), some (.ref 1), some (.ref 18), some (.int (nI p))] [] (mX (u, (len, f), mC y, po) x) := by
  refine gl_aload_n dL_law_1057 rfl ?_
  refine gl_aload_n dL_law_1058 rfl ?_
  refine gl_iload_n dL_law_1059 rfl ?_
  refine gl_iconst (v := nI 1) dL_law_1060 (by decide) ?_
  refine gl_iadd dL_law_1061 ?_
  refine gl_sld (j := p + 1) dL_law_1062 (by rw [nI_add]) (show p + 1 < len by omega) (show len < 2147483648 by omega) ?_
  refine gl_aload_n dL_law_1063 rfl ?_
  refine gl_iload_n dL_law_1064 rfl ?_
  refine gl_iconst (v := nI 2) dL_law_1065 (by decide) ?_
  refine gl_iadd dL_law_1066 ?_
  refine gl_sld (j := p + 2) dL_law_1067 (by rw [nI_add]) (show p + 2 < len by omega) (show len < 2147483648 by omega) ?_
  refine gl_callV (x_odds L hV (f (p + 1)) (f (p + 2))) dL_law_1068 q862 q863 q864 q74 q865 rfl hX0_odds rfl (rfl : vwCl[0]? = some (RX0, TX0, 30)) rfl rfl (rmOk (by omega) rfl) ⟨by first | exact Nat.le_refl _ | exact Nat.zero_le _ | decide | (dsimp only [rm]; omega), by first | exact Nat.le_refl _ | exact Nat.zero_le _ | decide | (dsimp only [rm]; omega)⟩ ?_
  rintro _ _ ⟨rfl, ⟨u', sc', fm', po'⟩, x', τ', n', m', t', rfl, ⟨hs', hm'⟩, hV'⟩
  have hs' : sc' = (len, f) := hs'
  have hm' : fm' = mC y := hm'
  subst hs'
  subst hm'
  refine gl_mem (μ1 := mM (u', (len, f), xC x', po') y) rfl ?_
  refine gl_aload_n dL_law_1071 rfl ?_
  refine gl_aload_n dL_law_1072 rfl ?_
  refine gl_iload_n dL_law_1073 rfl ?_
  refine gl_iconst (v := nI 1) dL_law_1074 (by decide) ?_
  refine gl_iadd dL_law_1075 ?_
  refine gl_sld (j := p + 1) dL_law_1076 (by rw [nI_add]) (show p + 1 < len by omega) (show len < 2147483648 by omega) ?_
  refine gl_aload_n dL_law_1077 rfl ?_
  refine gl_iload_n dL_law_1078 rfl ?_
  refine gl_iconst (v := nI 2) dL_law_1079 (by decide) ?_
  refine gl_iadd dL_law_1080 ?_
  refine gl_sld (j := p + 2) dL_law_1081 (by rw [nI_add]) (show p + 2 < len by omega) (show len < 2147483648 by omega) ?_
  refine gl_callV (m_odds L (u', (len, f), xC x', po') y hV.lb (lay_ne y hV.lb) (f (p + 1)) (f (p + 2))) dL_law_1082 q1322 q1323 q1324 q75 q1325 rfl hX1_odds rfl (rfl : vwCl[1]? = some (RX1, TX1, 21)) rfl rfl (rmOk (by omega) rfl) ⟨by first | exact Nat.le_refl _ | exact Nat.zero_le _ | decide | (dsimp only [rm]; omega), by first | exact Nat.le_refl _ | exact Nat.zero_le _ | decide | (dsimp only [rm]; omega)⟩ ?_
  rintro _ _ ⟨A, rfl, rfl⟩
  exact gl_icmp_eq (tgt := 1407) dL_law_1085 (by decide) (fun _ => gl_wid (by omega) (by omega) (kk _ (LI.mk (hV' A)))) (fun h => absurd rfl h)
theorem lc_worlds (hV : RV (u, (len, f), mC y, po) τ x y n m t) (hp : p + 6 ≤ len) (hl : len ≤ 384) (hc : cc + 7 ≤ c0) (hs : ss + 1000 ≤ s0) (kk : ∀ μ, LI len f μ → GL gL_law (rm (L + 40) c0 s0) K (cc + 7) (ss + 1000) 1407 [some (.ref 0), some (.ref 1), some (.ref 18), some (.int (nI p))] [] μ) : GL gL_law (rm (L + 40) c0 s0) K cc ss 1090 [some (.ref 0), some (.ref 1), some (.ref 18), some (.int (nI p))] [] (mX (u, (len, f), mC y, po) x) := by
  refine gl_aload_n dL_law_1090 rfl ?_
  refine gl_callV (x_worlds L hV) dL_law_1091 q870 q871 q872 q74 q873 rfl hX0_worlds rfl (rfl : vwCl[0]? = some (RX0, TX0, 30)) rfl rfl (rmOk (by omega) rfl) ⟨by first | exact Nat.le_refl _ | exact Nat.zero_le _ | decide | (dsimp only [rm]; omega), by first | exact Nat.le_refl _ | exact Nat.zero_le _ | decide | (dsimp only [rm]; omega)⟩ ?_
  rintro _ _ ⟨rfl, ⟨u', sc', fm', po'⟩, x', τ', n', m', t', rfl, ⟨hs', hm'⟩, hV'⟩
  have hs' : sc' = (len, f) := hs'
  have hm' : fm' = mC y := hm'
  subst hs'
  subst hm'
  refine gl_mem (μ1 := mM (u', (len, f), xC x', po') y) rfl ?_
  refine gl_aload_n dL_law_1094 rfl ?_
  refine gl_callV (m_worlds L (u', (len, f), xC x', po') y hV.lb) dL_law_1095 q1326 q1327 q1328 q75 q1329 rfl hX1_worlds rfl (rfl : vwCl[1]? = some (RX1, TX1, 21)) rfl rfl (rmOk (by omega) rfl) ⟨by first | exact Nat.le_refl _ | exact Nat.zero_le _ | decide | (dsimp only [rm]; omega), by first | exact Nat.le_refl _ | exact Nat.zero_le _ | decide | (dsimp only [rm]; omega)⟩ (rt1 ?_)
  exact gl_icmp_eq (tgt := 1407) dL_law_1098 (by decide) (fun _ => gl_wid (by omega) (by omega) (kk _ (LI.mk hV'))) (fun h => absurd rfl h)
theorem lc_never (hV : RV (u, (len, f), mC y, po) τ x y n m t) (hp : p + 6 ≤ len) (hl : len ≤ 384) (hc : cc + 7 ≤ c0) (hs : ss + 1000 ≤ s0) (kk : ∀ μ, LI len f μ → GL gL_law (rm (L + 40) c0 s0) K (cc + 7) (ss + 1000) 1407 [some (.ref 0), some (.ref 1), some (.ref 18), some (.int (nI p))] [] μ) : GL gL_law (rm (L + 40) c0 s0) K cc ss 1103 [some (.ref 0), some (.ref 1), some (.ref 18), some (.int (nI p))] [] (mX (u, (len, f), mC y, po) x) := by
  refine gl_aload_n dL_law_1103 rfl ?_
  refine gl_callV (x_never L hV) dL_law_1104 q874 q875 q876 q74 q877 rfl hX0_never rfl (rfl : vwCl[0]? = some (RX0, TX0, 30)) rfl rfl (rmOk (by omega) rfl) ⟨by first | exact Nat.le_refl _ | exact Nat.zero_le _ | decide | (dsimp only [rm]; omega), by first | exact Nat.le_refl _ | exact Nat.zero_le _ | decide | (dsimp only [rm]; omega)⟩ ?_
  rintro _ _ ⟨rfl, ⟨u', sc', fm', po'⟩, x', τ', n', m', t', rfl, ⟨hs', hm'⟩, hV'⟩
  have hs' : sc' = (len, f) := hs'
  have hm' : fm' = mC y := hm'
  subst hs'
  subst hm'
  refine gl_mem (μ1 := mM (u', (len, f), xC x', po') y) rfl ?_
  refine gl_aload_n dL_law_1107 rfl ?_
  refine gl_callV (m_never L (u', (len, f), xC x', po') y hV.lb) dL_law_1108 q1330 q1331 q1332 q75 q1333 rfl hX1_never rfl (rfl : vwCl[1]? = some (RX1, TX1, 21)) rfl rfl (rmOk (by omega) rfl) ⟨by first | exact Nat.le_refl _ | exact Nat.zero_le _ | decide | (dsimp only [rm]; omega), by first | exact Nat.le_refl _ | exact Nat.zero_le _ | decide | (dsimp only [rm]; omega)⟩ (rt1 ?_)
  exact gl_icmp_eq (tgt := 1407) dL_law_1111 (by decide) (fun _ => gl_wid (by omega) (by omega) (kk _ (LI.mk hV'))) (fun h => absurd rfl h)
theorem lc_parts (hV : RV (u, (len, f), mC y, po) τ x y n m t) (hp : p + 6 ≤ len) (hl : len ≤ 384) (hc : cc + 7 ≤ c0) (hs : ss + 1000 ≤ s0) (kk : ∀ μ, LI len f μ → GL gL_law (rm (L + 40) c0 s0) K (cc + 7) (ss + 1000) 1407 [some (.ref 0), some (.ref 1), some (.ref 18), some (.int (nI p))] [] μ) : GL gL_law (rm (L + 40) c0 s0) K cc ss 1116 [some (.ref 0), some (.ref 1), some (.ref 18), some (.int (nI p))] [] (mX (u, (len, f), mC y, po) x) := by
  refine gl_aload_n dL_law_1116 rfl ?_
  refine gl_callV (x_parts L hV) dL_law_1117 q878 q879 q880 q74 q881 rfl hX0_parts rfl (rfl : vwCl[0]? = some (RX0, TX0, 30)) rfl rfl (rmOk (by omega) rfl) ⟨by first | exact Nat.le_refl _ | exact Nat.zero_le _ | decide | (dsimp only [rm]; omega), by first | exact Nat.le_refl _ | exact Nat.zero_le _ | decide | (dsimp only [rm]; omega)⟩ ?_
  rintro _ _ ⟨rfl, ⟨u', sc', fm', po'⟩, x', τ', n', m', t', rfl, ⟨hs', hm'⟩, hV'⟩
  have hs' : sc' = (len, f) := hs'
  have hm' : fm' = mC y := hm'
  subst hs'
  subst hm'
  refine gl_mem (μ1 := mM (u', (len, f), xC x', po') y) rfl ?_
  refine gl_aload_n dL_law_1120 rfl ?_
  refine gl_callV (m_parts L (u', (len, f), xC x', po') y hV.lb) dL_law_1121 q1334 q1335 q1336 q75 q1337 rfl hX1_parts rfl (rfl : vwCl[1]? = some (RX1, TX1, 21)) rfl rfl (rmOk (by omega) rfl) ⟨by first | exact Nat.le_refl _ | exact Nat.zero_le _ | decide | (dsimp only [rm]; omega), by first | exact Nat.le_refl _ | exact Nat.zero_le _ | decide | (dsimp only [rm]; omega)⟩ (rt1 ?_)
  exact gl_icmp_eq (tgt := 1407) dL_law_1124 (by decide) (fun _ => gl_wid (by omega) (by omega) (kk _ (LI.mk hV'))) (fun h => absurd rfl h)
theorem lc_finds (hV : RV (u, (len, f), mC y, po) τ x y n m t) (hp : p + 6 ≤ len) (hl : len ≤ 384) (hc : cc + 7 ≤ c0) (hs : ss + 1000 ≤ s0) (kk : ∀ μ, LI len f μ → GL gL_law (rm (L + 40) c0 s0) K (cc + 7) (ss + 1000) 1407 [some (.ref 0), some (.ref 1), some (.ref 18), some (.int (nI p))] [] μ) : GL gL_law (rm (L + 40) c0 s0) K cc ss 1129 [some (.ref 0), some (.ref 1), some (.ref 18), some (.int (nI p))] [] (mX (u, (len, f), mC y, po) x) := by
  refine gl_aload_n dL_law_1129 rfl ?_
  refine gl_aload_n dL_law_1130 rfl ?_
  refine gl_iload_n dL_law_1131 rfl ?_
  refine gl_iconst (v := nI 1) dL_law_1132 (by decide) ?_
  refine gl_iadd dL_law_1133 ?_
  refine gl_sld (j := p + 1) dL_law_1134 (by rw [nI_add]) (show p + 1 < len by omega) (show len < 2147483648 by omega) ?_
  refine gl_callV (x_finds L hV (f (p + 1))) dL_law_1135 q885 q886 q887 q74 q888 rfl hX0_finds rfl (rfl : vwCl[0]? = some (RX0, TX0, 30)) rfl rfl (rmOk (by omega) rfl) ⟨by first | exact Nat.le_refl _ | exact Nat.zero_le _ | decide | (dsimp only [rm]; omega), by first | exact Nat.le_refl _ | exact Nat.zero_le _ | decide | (dsimp only [rm]; omega)⟩ ?_
  rintro _ _ ⟨rfl, ⟨u', sc', fm', po'⟩, x', τ', n', m', t', rfl, ⟨hs', hm'⟩, hV'⟩
  have hs' : sc' = (len, f) := hs'
  have hm' : fm' = mC y := hm'
  subst hs'
  subst hm'
  refine gl_mem (μ1 := mM (u', (len, f), xC x', po') y) rfl ?_
  refine gl_aload_n dL_law_1138 rfl ?_
  refine gl_aload_n dL_law_1139 rfl ?_
  refine gl_iload_n dL_law_1140 rfl ?_
  refine gl_iconst (v := nI 1) dL_law_1141 (by decide) ?_
  refine gl_iadd dL_law_1142 ?_
  refine gl_sld (j := p + 1) dL_law_1143 (by rw [nI_add]) (show p + 1 < len by omega) (show len < 2147483648 by omega) ?_
  refine gl_callV (m_finds L (u', (len, f), xC x', po') y hV.lb (f (p + 1))) dL_law_1144 q1342 q1343 q1344 q75 q1345 rfl hX1_finds rfl (rfl : vwCl[1]? = some (RX1, TX1, 21)) rfl rfl (rmOk (by omega) rfl) ⟨by first | exact Nat.le_refl _ | exact Nat.zero_le _ | decide | (dsimp only [rm]; omega), by first | exact Nat.le_refl _ | exact Nat.zero_le _ | decide | (dsimp only [rm]; omega)⟩ (rt1 ?_)
  exact gl_icmp_eq (tgt := 1407) dL_law_1147 (by decide) (fun _ => gl_wid (by omega) (by omega) (kk _ (LI.mk hV'))) (fun h => absurd rfl h)
theorem lc_left (hV : RV (u, (len, f), mC y, po) τ x y n m t) (hp : p + 6 ≤ len) (hl : len ≤ 384) (hc : cc + 7 ≤ c0) (hs : ss + 1000 ≤ s0) (kk : ∀ μ, LI len f μ → GL gL_law (rm (L + 40) c0 s0) K (cc + 7) (ss + 1000) 1407 [some (.ref 0), some (.ref 1), some (.ref 18), some (.int (nI p))] [] μ) : GL gL_law (rm (L + 40) c0 s0) K cc ss 1152 [some (.ref 0), some (.ref 1), some (.ref 18), some (.int (nI p))] [] (mX (u, (len, f), mC y, po) x) := by
  refine gl_aload_n dL_law_1152 rfl ?_
  refine gl_aload_n dL_law_1153 rfl ?_
  refine gl_iload_n dL_law_1154 rfl ?_
  refine gl_iconst (v := nI 1) dL_law_1155 (by decide) ?_
  refine gl_iadd dL_law_1156 ?_
  refine gl_sld (j := p + 1) dL_law_1157 (by rw [nI_add]) (show p + 1 < len by omega) (show len < 2147483648 by omega) ?_
  refine gl_callV (x_left L hV (f (p + 1))) dL_law_1158 q899 q900 q901 q74 q902 rfl hX0_left rfl (rfl : vwCl[0]? = some (RX0, TX0, 30)) rfl rfl (rmOk (by omega) rfl) ⟨by first | exact Nat.le_refl _ | exact Nat.zero_le _ | decide | (dsimp only [rm]; omega), by first | exact Nat.le_refl _ | exact Nat.zero_le _ | decide | (dsimp only [rm]; omega)⟩ ?_
  rintro _ _ ⟨rfl, ⟨u', sc', fm', po'⟩, x', τ', n', m', t', rfl, ⟨hs', hm'⟩, hV'⟩
  have hs' : sc' = (len, f) := hs'
  have hm' : fm' = mC y := hm'
  subst hs'
  subst hm'
  refine gl_mem (μ1 := mM (u', (len, f), xC x', po') y) rfl ?_
  refine gl_aload_n dL_law_1161 rfl ?_
  refine gl_aload_n dL_law_1162 rfl ?_
  refine gl_iload_n dL_law_1163 rfl ?_
  refine gl_iconst (v := nI 1) dL_law_1164 (by decide) ?_
  refine gl_iadd dL_law_1165 ?_
  refine gl_sld (j := p + 1) dL_law_1166 (by rw [nI_add]) (show p + 1 < len by omega) (show len < 2147483648 by omega) ?_
  refine gl_callV (m_left L (u', (len, f), xC x', po') y hV.lb hV.szr (f (p + 1))) dL_law_1167 q1350 q1351 q1352 q75 q1353 rfl hX1_left rfl (rfl : vwCl[1]? = some (RX1, TX1, 21)) rfl rfl (rmOk (by omega) rfl) ⟨by first | exact Nat.le_refl _ | exact Nat.zero_le _ | decide | (dsimp only [rm]; omega), by first | exact Nat.le_refl _ | exact Nat.zero_le _ | decide | (dsimp only [rm]; omega)⟩ (rt1 ?_)
  exact gl_icmp_eq (tgt := 1407) dL_law_1170 (by decide) (fun _ => gl_wid (by omega) (by omega) (kk _ (LI.mk hV'))) (fun h => absurd rfl h)
theorem lc_forged (hV : RV (u, (len, f), mC y, po) τ x y n m t) (hp : p + 6 ≤ len) (hl : len ≤ 384) (hc : cc + 7 ≤ c0) (hs : ss + 1000 ≤ s0) (kk : ∀ μ, LI len f μ → GL gL_law (rm (L + 40) c0 s0) K (cc + 7) (ss + 1000) 1407 [some (.ref 0), some (.ref 1), some (.ref 18), some (.int (nI p))] [] μ) : GL gL_law (rm (L + 40) c0 s0) K cc ss 1175 [some (.ref 0), some (.ref 1), some (.ref 18), some (.int (nI p))] [] (mX (u, (len, f), mC y, po) x) := by
  refine gl_aload_n dL_law_1175 rfl ?_
  refine gl_callV (x_forged L hV) dL_law_1176 q907 q908 q909 q74 q910 rfl hX0_forged rfl (rfl : vwCl[0]? = some (RX0, TX0, 30)) rfl rfl (rmOk (by omega) rfl) ⟨by first | exact Nat.le_refl _ | exact Nat.zero_le _ | decide | (dsimp only [rm]; omega), by first | exact Nat.le_refl _ | exact Nat.zero_le _ | decide | (dsimp only [rm]; omega)⟩ ?_
  rintro _ _ ⟨rfl, ⟨u', sc', fm', po'⟩, x', τ', n', m', t', rfl, ⟨hs', hm'⟩, hV'⟩
  have hs' : sc' = (len, f) := hs'
  have hm' : fm' = mC y := hm'
  subst hs'
  subst hm'
  refine gl_mem (μ1 := mM (u', (len, f), xC x', po') y) rfl ?_
  refine gl_aload_n dL_law_1179 rfl ?_
  refine gl_callV (m_forged L (u', (len, f), xC x', po') y hV.lb) dL_law_1180 q1354 q1355 q1356 q75 q1357 rfl hX1_forged rfl (rfl : vwCl[1]? = some (RX1, TX1, 21)) rfl rfl (rmOk (by omega) rfl) ⟨by first | exact Nat.le_refl _ | exact Nat.zero_le _ | decide | (dsimp only [rm]; omega), by first | exact Nat.le_refl _ | exact Nat.zero_le _ | decide | (dsimp only [rm]; omega)⟩ (rt1 ?_)
  exact gl_icmp_eq (tgt := 1407) dL_law_1183 (by decide) (fun _ => gl_wid (by omega) (by omega) (kk _ (LI.mk hV'))) (fun h => absurd rfl h)
theorem lc_beside (hV : RV (u, (len, f), mC y, po) τ x y n m t) (hp : p + 6 ≤ len) (hl : len ≤ 384) (hc : cc + 7 ≤ c0) (hs : ss + 1000 ≤ s0) (kk : ∀ μ, LI len f μ → GL gL_law (rm (L + 40) c0 s0) K (cc + 7) (ss + 1000) 1407 [some (.ref 0), some (.ref 1), some (.ref 18), some (.int (nI p))] [] μ) : GL gL_law (rm (L + 40) c0 s0) K cc ss 1188 [some (.ref 0), some (.ref 1), some (.ref 18), some (.int (nI p))] [] (mX (u, (len, f), mC y, po) x) := by
  refine gl_aload_n dL_law_1188 rfl ?_
  refine gl_aload_n dL_law_1189 rfl ?_
  refine gl_iload_n dL_law_1190 rfl ?_
  refine gl_iconst (v := nI 1) dL_law_1191 (by decide) ?_
  refine gl_iadd dL_law_1192 ?_
  refine gl_sld (j := p + 1) dL_law_1193 (by rw [nI_add]) (show p + 1 < len by omega) (show len < 2147483648 by omega) ?_
  refine gl_callV (x_beside L hV (f (p + 1))) dL_law_1194 q912 q913 q914 q74 q915 rfl hX0_beside rfl (rfl : vwCl[0]? = some (RX0, TX0, 30)) rfl rfl (rmOk (by omega) rfl) ⟨by first | exact Nat.le_refl _ | exact Nat.zero_le _ | decide | (dsimp only [rm]; omega), by first | exact Nat.le_refl _ | exact Nat.zero_le _ | decide | (dsimp only [rm]; omega)⟩ ?_
  rintro _ _ ⟨rfl, ⟨u', sc', fm', po'⟩, x', τ', n', m', t', rfl, ⟨hs', hm'⟩, hV'⟩
  have hs' : sc' = (len, f) := hs'
  have hm' : fm' = mC y := hm'
  subst hs'
  subst hm'
  refine gl_mem (μ1 := mM (u', (len, f), xC x', po') y) rfl ?_
  refine gl_aload_n dL_law_1197 rfl ?_
  refine gl_aload_n dL_law_1198 rfl ?_
  refine gl_iload_n dL_law_1199 rfl ?_
  refine gl_iconst (v := nI 1) dL_law_1200 (by decide) ?_
  refine gl_iadd dL_law_1201 ?_
  refine gl_sld (j := p + 1) dL_law_1202 (by rw [nI_add]) (show p + 1 < len by omega) (show len < 2147483648 by omega) ?_
  refine gl_callV (m_beside L (u', (len, f), xC x', po') y hV.lb hV.szr (f (p + 1))) dL_law_1203 q1358 q1359 q1360 q75 q1361 rfl hX1_beside rfl (rfl : vwCl[1]? = some (RX1, TX1, 21)) rfl rfl (rmOk (by omega) rfl) ⟨by first | exact Nat.le_refl _ | exact Nat.zero_le _ | decide | (dsimp only [rm]; omega), by first | exact Nat.le_refl _ | exact Nat.zero_le _ | decide | (dsimp only [rm]; omega)⟩ (rt1 ?_)
  exact gl_icmp_eq (tgt := 1407) dL_law_1206 (by decide) (fun _ => gl_wid (by omega) (by omega) (kk _ (LI.mk hV'))) (fun h => absurd rfl h)
theorem lc_habit (hV : RV (u, (len, f), mC y, po) τ x y n m t) (hp : p + 6 ≤ len) (hl : len ≤ 384) (hc : cc + 7 ≤ c0) (hs : ss + 1000 ≤ s0) (kk : ∀ μ, LI len f μ → GL gL_law (rm (L + 40) c0 s0) K (cc + 7) (ss + 1000) 1407 [some (.ref 0), some (.ref 1), some (.ref 18), some (.int (nI p))] [] μ) : GL gL_law (rm (L + 40) c0 s0) K cc ss 1211 [some (.ref 0), some (.ref 1), some (.ref 18), some (.int (nI p))] [] (mX (u, (len, f), mC y, po) x) := by
  refine gl_aload_n dL_law_1211 rfl ?_
  refine gl_callV (x_habit L hV) dL_law_1212 q923 q924 q925 q74 q926 rfl hX0_habit rfl (rfl : vwCl[0]? = some (RX0, TX0, 30)) rfl rfl (rmOk (by omega) rfl) ⟨by first | exact Nat.le_refl _ | exact Nat.zero_le _ | decide | (dsimp only [rm]; omega), by first | exact Nat.le_refl _ | exact Nat.zero_le _ | decide | (dsimp only [rm]; omega)⟩ ?_
  rintro _ _ ⟨rfl, ⟨u', sc', fm', po'⟩, x', τ', n', m', t', rfl, ⟨hs', hm'⟩, hV'⟩
  have hs' : sc' = (len, f) := hs'
  have hm' : fm' = mC y := hm'
  subst hs'
  subst hm'
  refine gl_mem (μ1 := mM (u', (len, f), xC x', po') y) rfl ?_
  refine gl_aload_n dL_law_1215 rfl ?_
  refine gl_callV (m_habit L (u', (len, f), xC x', po') y hV.lb) dL_law_1216 q1373 q1374 q1375 q75 q1376 rfl hX1_habit rfl (rfl : vwCl[1]? = some (RX1, TX1, 21)) rfl rfl (rmOk (by omega) rfl) ⟨by first | exact Nat.le_refl _ | exact Nat.zero_le _ | decide | (dsimp only [rm]; omega), by first | exact Nat.le_refl _ | exact Nat.zero_le _ | decide | (dsimp only [rm]; omega)⟩ (rt1 ?_)
  exact gl_icmp_eq (tgt := 1407) dL_law_1219 (by decide) (fun _ => gl_wid (by omega) (by omega) (kk _ (LI.mk hV'))) (fun h => absurd rfl h)
theorem lc_order (hV : RV (u, (len, f), mC y, po) τ x y n m t) (hp : p + 6 ≤ len) (hl : len ≤ 384) (hc : cc + 7 ≤ c0) (hs : ss + 1000 ≤ s0) (kk : ∀ μ, LI len f μ → GL gL_law (rm (L + 40) c0 s0) K (cc + 7) (ss + 1000) 1407 [some (.ref 0), some (.ref 1), some (.ref 18), some (.int (nI p))] [] μ) : GL gL_law (rm (L + 40) c0 s0) K cc ss 1224 [some (.ref 0), some (.ref 1), some (.ref 18), some (.int (nI p))] [] (mX (u, (len, f), mC y, po) x) := by
  refine gl_aload_n dL_law_1224 rfl ?_
  refine gl_callV (x_order L hV) dL_law_1225 q935 q936 q937 q74 q938 rfl hX0_order rfl (rfl : vwCl[0]? = some (RX0, TX0, 30)) rfl rfl (rmOk (by omega) rfl) ⟨by first | exact Nat.le_refl _ | exact Nat.zero_le _ | decide | (dsimp only [rm]; omega), by first | exact Nat.le_refl _ | exact Nat.zero_le _ | decide | (dsimp only [rm]; omega)⟩ ?_
  rintro _ _ ⟨rfl, ⟨u', sc', fm', po'⟩, x', τ', n', m', t', rfl, ⟨hs', hm'⟩, hV'⟩
  have hs' : sc' = (len, f) := hs'
  have hm' : fm' = mC y := hm'
  subst hs'
  subst hm'
  refine gl_mem (μ1 := mM (u', (len, f), xC x', po') y) rfl ?_
  refine gl_aload_n dL_law_1228 rfl ?_
  refine gl_callV (m_order L (u', (len, f), xC x', po') y hV.lb) dL_law_1229 q1381 q1382 q1383 q75 q1384 rfl hX1_order rfl (rfl : vwCl[1]? = some (RX1, TX1, 21)) rfl rfl (rmOk (by omega) rfl) ⟨by first | exact Nat.le_refl _ | exact Nat.zero_le _ | decide | (dsimp only [rm]; omega), by first | exact Nat.le_refl _ | exact Nat.zero_le _ | decide | (dsimp only [rm]; omega)⟩ (rt1 ?_)
  exact gl_icmp_eq (tgt := 1407) dL_law_1232 (by decide) (fun _ => gl_wid (by omega) (by omega) (kk _ (LI.mk hV'))) (fun h => absurd rfl h)
theorem lc_byAge (hV : RV (u, (len, f), mC y, po) τ x y n m t) (hp : p + 6 ≤ len) (hl : len ≤ 384) (hc : cc + 7 ≤ c0) (hs : ss + 1000 ≤ s0) (kk : ∀ μ, LI len f μ → GL gL_law (rm (L + 40) c0 s0) K (cc + 7) (ss + 1000) 1407 [some (.ref 0), some (.ref 1), some (.ref 18), some (.int (nI p))] [] μ) : GL gL_law (rm (L + 40) c0 s0) K cc ss 1237 [some (.ref 0), some (.ref 1), some (.ref 18), some (.int (nI p))] [] (mX (u, (len, f), mC y, po) x) := by
  refine gl_aload_n dL_law_1237 rfl ?_
  refine gl_aload_n dL_law_1238 rfl ?_
  refine gl_iload_n dL_law_1239 rfl ?_
  refine gl_iconst (v := nI 1) dL_law_1240 (by decide) ?_
  refine gl_iadd dL_law_1241 ?_
  refine gl_sld (j := p + 1) dL_law_1242 (by rw [nI_add]) (show p + 1 < len by omega) (show len < 2147483648 by omega) ?_
  refine gl_callV (x_byAge L hV (f (p + 1))) dL_law_1243 q944 q945 q946 q74 q947 rfl hX0_byAge rfl (rfl : vwCl[0]? = some (RX0, TX0, 30)) rfl rfl (rmOk (by omega) rfl) ⟨by first | exact Nat.le_refl _ | exact Nat.zero_le _ | decide | (dsimp only [rm]; omega), by first | exact Nat.le_refl _ | exact Nat.zero_le _ | decide | (dsimp only [rm]; omega)⟩ ?_
  rintro _ _ ⟨rfl, ⟨u', sc', fm', po'⟩, x', τ', n', m', t', rfl, ⟨hs', hm'⟩, hV'⟩
  have hs' : sc' = (len, f) := hs'
  have hm' : fm' = mC y := hm'
  subst hs'
  subst hm'
  refine gl_mem (μ1 := mM (u', (len, f), xC x', po') y) rfl ?_
  refine gl_aload_n dL_law_1246 rfl ?_
  refine gl_aload_n dL_law_1247 rfl ?_
  refine gl_iload_n dL_law_1248 rfl ?_
  refine gl_iconst (v := nI 1) dL_law_1249 (by decide) ?_
  refine gl_iadd dL_law_1250 ?_
  refine gl_sld (j := p + 1) dL_law_1251 (by rw [nI_add]) (show p + 1 < len by omega) (show len < 2147483648 by omega) ?_
  refine gl_callV (m_byAge L (u', (len, f), xC x', po') y hV.lb (f (p + 1))) dL_law_1252 q1385 q1386 q1387 q75 q1388 rfl hX1_byAge rfl (rfl : vwCl[1]? = some (RX1, TX1, 21)) rfl rfl (rmOk (by omega) rfl) ⟨by first | exact Nat.le_refl _ | exact Nat.zero_le _ | decide | (dsimp only [rm]; omega), by first | exact Nat.le_refl _ | exact Nat.zero_le _ | decide | (dsimp only [rm]; omega)⟩ (rt1 ?_)
  exact gl_icmp_eq (tgt := 1407) dL_law_1255 (by decide) (fun _ => gl_wid (by omega) (by omega) (kk _ (LI.mk hV'))) (fun h => absurd rfl h)
theorem lc_lots (hV : RV (u, (len, f), mC y, po) τ x y n m t) (hp : p + 6 ≤ len) (hl : len ≤ 384) (hc : cc + 7 ≤ c0) (hs : ss + 1000 ≤ s0) (kk : ∀ μ, LI len f μ → GL gL_law (rm (L + 40) c0 s0) K (cc + 7) (ss + 1000) 1407 [some (.ref 0), some (.ref 1), some (.ref 18), some (.int (nI p))] [] μ) : GL gL_law (rm (L + 40) c0 s0) K cc ss 1260 [some (.ref 0), some (.ref 1), some (.ref 18), some (.int (nI p))] [] (mX (u, (len, f), mC y, po) x) := by
  refine gl_aload_n dL_law_1260 rfl ?_
  refine gl_aload_n dL_law_1261 rfl ?_
  refine gl_iload_n dL_law_1262 rfl ?_
  refine gl_iconst (v := nI 1) dL_law_1263 (by decide) ?_
  refine gl_iadd dL_law_1264 ?_
  refine gl_sld (j := p + 1) dL_law_1265 (by rw [nI_add]) (show p + 1 < len by omega) (show len < 2147483648 by omega) ?_
  refine gl_aload_n dL_law_1266 rfl ?_
  refine gl_iload_n dL_law_1267 rfl ?_
  refine gl_iconst (v := nI 2) dL_law_1268 (by decide) ?_
  refine gl_iadd dL_law_1269 ?_
  refine gl_sld (j := p + 2) dL_law_1270 (by rw [nI_add]) (show p + 2 < len by omega) (show len < 2147483648 by omega) ?_
  refine gl_callV (x_lots L hV (f (p + 1)) (f (p + 2))) dL_law_1271 q948 q949 q950 q74 q951 rfl hX0_lots rfl (rfl : vwCl[0]? = some (RX0, TX0, 30)) rfl rfl (rmOk (by omega) rfl) ⟨by first | exact Nat.le_refl _ | exact Nat.zero_le _ | decide | (dsimp only [rm]; omega), by first | exact Nat.le_refl _ | exact Nat.zero_le _ | decide | (dsimp only [rm]; omega)⟩ ?_
  rintro _ _ ⟨rfl, ⟨u', sc', fm', po'⟩, x', τ', n', m', t', rfl, ⟨hs', hm'⟩, hV'⟩
  have hs' : sc' = (len, f) := hs'
  have hm' : fm' = mC y := hm'
  subst hs'
  subst hm'
  refine gl_mem (μ1 := mM (u', (len, f), xC x', po') y) rfl ?_
  refine gl_aload_n dL_law_1274 rfl ?_
  refine gl_aload_n dL_law_1275 rfl ?_
  refine gl_iload_n dL_law_1276 rfl ?_
  refine gl_iconst (v := nI 1) dL_law_1277 (by decide) ?_
  refine gl_iadd dL_law_1278 ?_
  refine gl_sld (j := p + 1) dL_law_1279 (by rw [nI_add]) (show p + 1 < len by omega) (show len < 2147483648 by omega) ?_
  refine gl_aload_n dL_law_1280 rfl ?_
  refine gl_iload_n dL_law_1281 rfl ?_
  refine gl_iconst (v := nI 2) dL_law_1282 (by decide) ?_
  refine gl_iadd dL_law_1283 ?_
  refine gl_sld (j := p + 2) dL_law_1284 (by rw [nI_add]) (show p + 2 < len by omega) (show len < 2147483648 by omega) ?_
  refine gl_callV (m_lots L (u', (len, f), xC x', po') y hV.lb (f (p + 1)) (f (p + 2))) dL_law_1285 q1389 q1390 q1391 q75 q1392 rfl hX1_lots rfl (rfl : vwCl[1]? = some (RX1, TX1, 21)) rfl rfl (rmOk (by omega) rfl) ⟨by first | exact Nat.le_refl _ | exact Nat.zero_le _ | decide | (dsimp only [rm]; omega), by first | exact Nat.le_refl _ | exact Nat.zero_le _ | decide | (dsimp only [rm]; omega)⟩ (rt1 ?_)
  exact gl_icmp_eq (tgt := 1407) dL_law_1288 (by decide) (fun _ => gl_wid (by omega) (by omega) (kk _ (LI.mk hV'))) (fun h => absurd rfl h)
theorem lc_asked (hV : RV (u, (len, f), mC y, po) τ x y n m t) (hp : p + 6 ≤ len) (hl : len ≤ 384) (hc : cc + 7 ≤ c0) (hs : ss + 1000 ≤ s0) (kk : ∀ μ, LI len f μ → GL gL_law (rm (L + 40) c0 s0) K (cc + 7) (ss + 1000) 1407 [some (.ref 0), some (.ref 1), some (.ref 18), some (.int (nI p))] [] μ) : GL gL_law (rm (L + 40) c0 s0) K cc ss 1293 [some (.ref 0), some (.ref 1), some (.ref 18), some (.int (nI p))] [] (mX (u, (len, f), mC y, po) x) := by
  refine gl_aload_n dL_law_1293 rfl ?_
  refine gl_callV (x_asked L hV) dL_law_1294 q960 q961 q962 q74 q963 rfl hX0_asked rfl (rfl : vwCl[0]? = some (RX0, TX0, 30)) rfl rfl (rmOk (by omega) rfl) ⟨by first | exact Nat.le_refl _ | exact Nat.zero_le _ | decide | (dsimp only [rm]; omega), by first | exact Nat.le_refl _ | exact Nat.zero_le _ | decide | (dsimp only [rm]; omega)⟩ ?_
  rintro _ _ ⟨rfl, ⟨u', sc', fm', po'⟩, x', τ', n', m', t', rfl, ⟨hs', hm'⟩, hV'⟩
  have hs' : sc' = (len, f) := hs'
  have hm' : fm' = mC y := hm'
  subst hs'
  subst hm'
  refine gl_mem (μ1 := mM (u', (len, f), xC x', po') y) rfl ?_
  refine gl_aload_n dL_law_1297 rfl ?_
  refine gl_callV (m_asked L (u', (len, f), xC x', po') y) dL_law_1298 q1398 q1399 q1400 q75 q1401 rfl hX1_asked rfl (rfl : vwCl[1]? = some (RX1, TX1, 21)) rfl rfl (rmOk (by omega) rfl) ⟨by first | exact Nat.le_refl _ | exact Nat.zero_le _ | decide | (dsimp only [rm]; omega), by first | exact Nat.le_refl _ | exact Nat.zero_le _ | decide | (dsimp only [rm]; omega)⟩ (rt1 ?_)
  exact gl_icmp_eq (tgt := 1407) dL_law_1301 (by decide) (fun _ => gl_wid (by omega) (by omega) (kk _ (LI.mk hV'))) (fun h => absurd rfl h)
theorem lc_upper (hV : RV (u, (len, f), mC y, po) τ x y n m t) (hp : p + 6 ≤ len) (hl : len ≤ 384) (hc : cc + 7 ≤ c0) (hs : ss + 1000 ≤ s0) (kk : ∀ μ, LI len f μ → GL gL_law (rm (L + 40) c0 s0) K (cc + 7) (ss + 1000) 1407 [some (.ref 0), some (.ref 1), some (.ref 18), some (.int (nI p))] [] μ) : GL gL_law (rm (L + 40) c0 s0) K cc ss 1306 [some (.ref 0), some (.ref 1), some (.ref 18), some (.int (nI p))] [] (mX (u, (len, f), mC y, po) x) := by
  refine gl_aload_n dL_law_1306 rfl ?_
  refine gl_callV (x_upper L hV) dL_law_1307 q964 q965 q966 q74 q967 rfl hX0_upper rfl (rfl : vwCl[0]? = some (RX0, TX0, 30)) rfl rfl (rmOk (by omega) rfl) ⟨by first | exact Nat.le_refl _ | exact Nat.zero_le _ | decide | (dsimp only [rm]; omega), by first | exact Nat.le_refl _ | exact Nat.zero_le _ | decide | (dsimp only [rm]; omega)⟩ ?_
  rintro _ _ ⟨rfl, rfl⟩
  have hV' := hV
  refine gl_mem (μ1 := mM (u, (len, f), xC x, po) y) rfl ?_
  refine gl_aload_n dL_law_1310 rfl ?_
  refine gl_callV (m_upper L (u, (len, f), xC x, po) y) dL_law_1311 q1402 q1403 q1404 q75 q1405 rfl hX1_upper rfl (rfl : vwCl[1]? = some (RX1, TX1, 21)) rfl rfl (rmOk (by omega) rfl) ⟨by first | exact Nat.le_refl _ | exact Nat.zero_le _ | decide | (dsimp only [rm]; omega), by first | exact Nat.le_refl _ | exact Nat.zero_le _ | decide | (dsimp only [rm]; omega)⟩ (rt1 ?_)
  refine gl_lcmp dL_law_1314 ?_
  exact gl_if_eq (tgt := 1407) dL_law_1315 (by decide) (fun _ => gl_wid (by omega) (by omega) (kk _ (LI.mk hV'))) (fun h => absurd (lg_self _) h)
theorem lc_lower (hV : RV (u, (len, f), mC y, po) τ x y n m t) (hp : p + 6 ≤ len) (hl : len ≤ 384) (hc : cc + 7 ≤ c0) (hs : ss + 1000 ≤ s0) (kk : ∀ μ, LI len f μ → GL gL_law (rm (L + 40) c0 s0) K (cc + 7) (ss + 1000) 1407 [some (.ref 0), some (.ref 1), some (.ref 18), some (.int (nI p))] [] μ) : GL gL_law (rm (L + 40) c0 s0) K cc ss 1320 [some (.ref 0), some (.ref 1), some (.ref 18), some (.int (nI p))] [] (mX (u, (len, f), mC y, po) x) := by
  refine gl_aload_n dL_law_1320 rfl ?_
  refine gl_callV (x_lower L hV) dL_law_1321 q968 q969 q970 q74 q971 rfl hX0_lower rfl (rfl : vwCl[0]? = some (RX0, TX0, 30)) rfl rfl (rmOk (by omega) rfl) ⟨by first | exact Nat.le_refl _ | exact Nat.zero_le _ | decide | (dsimp only [rm]; omega), by first | exact Nat.le_refl _ | exact Nat.zero_le _ | decide | (dsimp only [rm]; omega)⟩ ?_
  rintro _ _ ⟨rfl, rfl⟩
  have hV' := hV
  refine gl_mem (μ1 := mM (u, (len, f), xC x, po) y) rfl ?_
  refine gl_aload_n dL_law_1324 rfl ?_
  refine gl_callV (m_lower L (u, (len, f), xC x, po) y) dL_law_1325 q1406 q1407 q1408 q75 q1409 rfl hX1_lower rfl (rfl : vwCl[1]? = some (RX1, TX1, 21)) rfl rfl (rmOk (by omega) rfl) ⟨by first | exact Nat.le_refl _ | exact Nat.zero_le _ | decide | (dsimp only [rm]; omega), by first | exact Nat.le_refl _ | exact Nat.zero_le _ | decide | (dsimp only [rm]; omega)⟩ (rt1 ?_)
  refine gl_lcmp dL_law_1328 ?_
  exact gl_if_eq (tgt := 1407) dL_law_1329 (by decide) (fun _ => gl_wid (by omega) (by omega) (kk _ (LI.mk hV'))) (fun h => absurd (lg_self _) h)
theorem lc_count (hV : RV (u, (len, f), mC y, po) τ x y n m t) (hp : p + 6 ≤ len) (hl : len ≤ 384) (hc : cc + 7 ≤ c0) (hs : ss + 1000 ≤ s0) (kk : ∀ μ, LI len f μ → GL gL_law (rm (L + 40) c0 s0) K (cc + 7) (ss + 1000) 1407 [some (.ref 0), some (.ref 1), some (.ref 18), some (.int (nI p))] [] μ) : GL gL_law (rm (L + 40) c0 s0) K cc ss 1334 [some (.ref 0), some (.ref 1), some (.ref 18), some (.int (nI p))] [] (mX (u, (len, f), mC y, po) x) := by
  refine gl_aload_n dL_law_1334 rfl ?_
  refine gl_aload_n dL_law_1335 rfl ?_
  refine gl_iload_n dL_law_1336 rfl ?_
  refine gl_iconst (v := nI 1) dL_law_1337 (by decide) ?_
  refine gl_iadd dL_law_1338 ?_
  refine gl_sld (j := p + 1) dL_law_1339 (by rw [nI_add]) (show p + 1 < len by omega) (show len < 2147483648 by omega) ?_
  refine gl_callV (x_count L hV (f (p + 1))) dL_law_1340 q972 q973 q974 q74 q975 rfl hX0_count rfl (rfl : vwCl[0]? = some (RX0, TX0, 30)) rfl rfl (rmOk (by omega) rfl) ⟨by first | exact Nat.le_refl _ | exact Nat.zero_le _ | decide | (dsimp only [rm]; omega), by first | exact Nat.le_refl _ | exact Nat.zero_le _ | decide | (dsimp only [rm]; omega)⟩ ?_
  rintro _ _ ⟨rfl, ⟨u', sc', fm', po'⟩, x', τ', n', m', t', rfl, ⟨hs', hm'⟩, hV'⟩
  have hs' : sc' = (len, f) := hs'
  have hm' : fm' = mC y := hm'
  subst hs'
  subst hm'
  refine gl_mem (μ1 := mM (u', (len, f), xC x', po') y) rfl ?_
  refine gl_aload_n dL_law_1343 rfl ?_
  refine gl_aload_n dL_law_1344 rfl ?_
  refine gl_iload_n dL_law_1345 rfl ?_
  refine gl_iconst (v := nI 1) dL_law_1346 (by decide) ?_
  refine gl_iadd dL_law_1347 ?_
  refine gl_sld (j := p + 1) dL_law_1348 (by rw [nI_add]) (show p + 1 < len by omega) (show len < 2147483648 by omega) ?_
  refine gl_callV (m_count L (u', (len, f), xC x', po') y hV.lb (f (p + 1))) dL_law_1349 q1410 q1411 q1412 q75 q1413 rfl hX1_count rfl (rfl : vwCl[1]? = some (RX1, TX1, 21)) rfl rfl (rmOk (by omega) rfl) ⟨by first | exact Nat.le_refl _ | exact Nat.zero_le _ | decide | (dsimp only [rm]; omega), by first | exact Nat.le_refl _ | exact Nat.zero_le _ | decide | (dsimp only [rm]; omega)⟩ (rt1 ?_)
  exact gl_icmp_eq (tgt := 1407) dL_law_1352 (by decide) (fun _ => gl_wid (by omega) (by omega) (kk _ (LI.mk hV'))) (fun h => absurd rfl h)
theorem lc_finding (hV : RV (u, (len, f), mC y, po) τ x y n m t) (hp : p + 6 ≤ len) (hl : len ≤ 384) (hc : cc + 7 ≤ c0) (hs : ss + 1000 ≤ s0) (kk : ∀ μ, LI len f μ → GL gL_law (rm (L + 40) c0 s0) K (cc + 7) (ss + 1000) 1407 [some (.ref 0), some (.ref 1), some (.ref 18), some (.int (nI p))] [] μ) : GL gL_law (rm (L + 40) c0 s0) K cc ss 1357 [some (.ref 0), some (.ref 1), some (.ref 18), some (.int (nI p))] [] (mX (u, (len, f), mC y, po) x) := by
  refine gl_aload_n dL_law_1357 rfl ?_
  refine gl_callV (x_finding L hV) dL_law_1358 q992 q993 q994 q74 q995 rfl hX0_finding rfl (rfl : vwCl[0]? = some (RX0, TX0, 30)) rfl rfl (rmOk (by omega) rfl) ⟨by first | exact Nat.le_refl _ | exact Nat.zero_le _ | decide | (dsimp only [rm]; omega), by first | exact Nat.le_refl _ | exact Nat.zero_le _ | decide | (dsimp only [rm]; omega)⟩ ?_
  rintro _ _ ⟨rfl, ⟨u', sc', fm', po'⟩, x', τ', n', m', t', rfl, ⟨hs', hm'⟩, hV'⟩
  have hs' : sc' = (len, f) := hs'
  have hm' : fm' = mC y := hm'
  subst hs'
  subst hm'
  refine gl_mem (μ1 := mM (u', (len, f), xC x', po') y) rfl ?_
  refine gl_aload_n dL_law_1361 rfl ?_
  refine gl_callV (m_finding L (u', (len, f), xC x', po') y) dL_law_1362 q1419 q1420 q1421 q75 q1422 rfl hX1_finding rfl (rfl : vwCl[1]? = some (RX1, TX1, 21)) rfl rfl (rmOk (by omega) rfl) ⟨by first | exact Nat.le_refl _ | exact Nat.zero_le _ | decide | (dsimp only [rm]; omega), by first | exact Nat.le_refl _ | exact Nat.zero_le _ | decide | (dsimp only [rm]; omega)⟩ (rt1 ?_)
  exact gl_icmp_eq (tgt := 1407) dL_law_1365 (by decide) (fun _ => gl_wid (by omega) (by omega) (kk _ (LI.mk hV'))) (fun h => absurd rfl h)
theorem lc_findings (hV : RV (u, (len, f), mC y, po) τ x y n m t) (hp : p + 6 ≤ len) (hl : len ≤ 384) (hc : cc + 7 ≤ c0) (hs : ss + 1000 ≤ s0) (kk : ∀ μ, LI len f μ → GL gL_law (rm (L + 40) c0 s0) K (cc + 7) (ss + 1000) 1407 [some (.ref 0), some (.ref 1), some (.ref 18), some (.int (nI p))] [] μ) : GL gL_law (rm (L + 40) c0 s0) K cc ss 1370 [some (.ref 0), some (.ref 1), some (.ref 18), some (.int (nI p))] [] (mX (u, (len, f), mC y, po) x) := by
  refine gl_aload_n dL_law_1370 rfl ?_
  refine gl_aload_n dL_law_1371 rfl ?_
  refine gl_iload_n dL_law_1372 rfl ?_
  refine gl_iconst (v := nI 1) dL_law_1373 (by decide) ?_
  refine gl_iadd dL_law_1374 ?_
  refine gl_sld (j := p + 1) dL_law_1375 (by rw [nI_add]) (show p + 1 < len by omega) (show len < 2147483648 by omega) ?_
  refine gl_callV (x_findings L hV (f (p + 1))) dL_law_1376 q996 q997 q998 q74 q999 rfl hX0_findings rfl (rfl : vwCl[0]? = some (RX0, TX0, 30)) rfl rfl (rmOk (by omega) rfl) ⟨by first | exact Nat.le_refl _ | exact Nat.zero_le _ | decide | (dsimp only [rm]; omega), by first | exact Nat.le_refl _ | exact Nat.zero_le _ | decide | (dsimp only [rm]; omega)⟩ ?_
  rintro _ _ ⟨rfl, ⟨u', sc', fm', po'⟩, x', τ', n', m', t', rfl, ⟨hs', hm'⟩, hV'⟩
  have hs' : sc' = (len, f) := hs'
  have hm' : fm' = mC y := hm'
  subst hs'
  subst hm'
  refine gl_mem (μ1 := mM (u', (len, f), xC x', po') y) rfl ?_
  refine gl_aload_n dL_law_1379 rfl ?_
  refine gl_aload_n dL_law_1380 rfl ?_
  refine gl_iload_n dL_law_1381 rfl ?_
  refine gl_iconst (v := nI 1) dL_law_1382 (by decide) ?_
  refine gl_iadd dL_law_1383 ?_
  refine gl_sld (j := p + 1) dL_law_1384 (by rw [nI_add]) (show p + 1 < len by omega) (show len < 2147483648 by omega) ?_
  refine gl_callV (m_findings L (u', (len, f), xC x', po') y (f (p + 1))) dL_law_1385 q1423 q1424 q1425 q75 q1426 rfl hX1_findings rfl (rfl : vwCl[1]? = some (RX1, TX1, 21)) rfl rfl (rmOk (by omega) rfl) ⟨by first | exact Nat.le_refl _ | exact Nat.zero_le _ | decide | (dsimp only [rm]; omega), by first | exact Nat.le_refl _ | exact Nat.zero_le _ | decide | (dsimp only [rm]; omega)⟩ (rt1 ?_)
  exact gl_icmp_eq (tgt := 1407) dL_law_1388 (by decide) (fun _ => gl_wid (by omega) (by omega) (kk _ (LI.mk hV'))) (fun h => absurd rfl h)
theorem lc_digest (hV : RV (u, (len, f), mC y, po) τ x y n m t) (hp : p + 6 ≤ len) (hl : len ≤ 384) (hc : cc + 7 ≤ c0) (hs : ss + 1000 ≤ s0) (kk : ∀ μ, LI len f μ → GL gL_law (rm (L + 40) c0 s0) K (cc + 7) (ss + 1000) 1407 [some (.ref 0), some (.ref 1), some (.ref 18), some (.int (nI p))] [] μ) : GL gL_law (rm (L + 40) c0 s0) K cc ss 1393 [some (.ref 0), some (.ref 1), some (.ref 18), some (.int (nI p))] [] (mX (u, (len, f), mC y, po) x) := by
  refine gl_aload_n dL_law_1393 rfl ?_
  refine gl_callV (x_digest L hV) dL_law_1394 q1000 q1001 q1002 q74 q1003 rfl hX0_digest rfl (rfl : vwCl[0]? = some (RX0, TX0, 30)) rfl rfl (rmOk (by omega) rfl) ⟨by first | exact Nat.le_refl _ | exact Nat.zero_le _ | decide | (dsimp only [rm]; omega), by first | exact Nat.le_refl _ | exact Nat.zero_le _ | decide | (dsimp only [rm]; omega)⟩ ?_
  rintro _ _ ⟨rfl, h, rfl⟩
  have hV' := RV_h0 h hV
  refine gl_mem (μ1 := mM (u, (len, f), xC (tJ x 29 h), po) y) rfl ?_
  refine gl_aload_n dL_law_1397 rfl ?_
  refine gl_callV (m_digest L (u, (len, f), xC (tJ x 29 h), po) y hV.lb hV.szr hV.szt) dL_law_1398 q1427 q1428 q1429 q75 q1430 rfl hX1_digest rfl (rfl : vwCl[1]? = some (RX1, TX1, 21)) rfl rfl (rmOk (by omega) rfl) ⟨by first | exact Nat.le_refl _ | exact Nat.zero_le _ | decide | (dsimp only [rm]; omega), by first | exact Nat.le_refl _ | exact Nat.zero_le _ | decide | (dsimp only [rm]; omega)⟩ (rt1 ?_)
  refine gl_lcmp dL_law_1401 ?_
  exact gl_if_eq (tgt := 1407) dL_law_1402 (by decide) (fun _ => gl_wid (by omega) (by omega) (kk _ (LI.mk hV'))) (fun h => absurd (lg_self _) h)
end LAWc

