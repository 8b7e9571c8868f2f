/-! the component's rows and texts -/
set_option maxRecDepth 100000
theorem oP_oN (o : OX) (c d : MC) : oP (oN o c) o.1 d = oN o d := by
  show (o.1 + 1, o.2.1, o.2.2.1, va_up (va_up o.2.2.2 o.1 (some c)) o.1 (some d)) = _
  rw [up_twice]
  rfl
section RWs
variable {o o' : OX} {τ τ' : Nat → Nat} {x : XY} {y : MY} {n m t : Nat}
theorem rowR.g {tag ty N : Nat} {r : Option Nat} {sz : Int32} {g g' : Nat → Int32} (h : rowR o τ tag ty N r sz g) (H : ∀ i, i < N → g' i = g i) : rowR o τ tag ty N r sz g' := by
  rcases h with e | ⟨k, s, f, h1, h2, h3, h4, h5⟩
  · exact Or.inl e
  · exact Or.inr ⟨k, s, f, h1, h2, h3, h4, fun i hi => (h5 i hi).trans (H i (by omega)).symm⟩
/-- a row changed -/
theorem RV.rowS (h : RV o τ x y n m t) {r : Nat} (hr : r < 6) (h33 : 33 ≤ o'.1) (H : ∀ k tag c, tag ≠ r → Own o τ k tag c → Own o' τ' k tag c) {R' : Nat → Option Nat} {S F : Nat → Int32} (hR : ∀ j, j ≠ r → R' j = x.2.2.2.1 3 j) (hS : ∀ j, j ≠ r → S j = y.2.2 19 j) (hF : ∀ j, j ≠ r → ∀ i, i < 40 → F (40 * j + i) = y.2.2 20 (40 * j + i)) (hn : rowR o' τ' r 0 40 (R' r) (S r) (fun i => F (40 * r + i))) : RV o' τ' (tR x 3 R') (sA (sA y 19 S) 20 F) n m t := by
  refine ⟨h33, h.rl.tr (fun k tag c h1 h2 => H k tag c (by omega)), h.lb, fun j hj => ?_, fun j hj => (h.text j hj).tr (fun k c => H k _ c (by omega)), fun k hk => (h.kept k hk).tr (fun k' tag c q => H k' tag c (by omega)), h.vis⟩
  show rowR o' τ' j 0 40 (R' j) (S j) (fun i => F (40 * j + i))
  by_cases e : j = r
  · rw [e]; exact hn
  · rw [hR j e, hS j e]
    exact ((h.row j hj).tr (fun k c => H k _ c e)).g (fun i hi => hF j e i hi)
/-- a text changed -/
theorem RV.textS (h : RV o τ x y n m t) {r : Nat} (hr : r < 4) (h33 : 33 ≤ o'.1) (H : ∀ k tag c, tag ≠ 10 + r → Own o τ k tag c → Own o' τ' k tag c) {R' : Nat → Option Nat} {S F : Nat → Int32} (hR : ∀ j, j ≠ r → R' j = x.2.2.2.1 4 j) (hS : ∀ j, j ≠ r → S j = y.2.2 21 j) (hF : ∀ j, j ≠ r → ∀ i, i < 80 → F (80 * j + i) = y.2.2 22 (80 * j + i)) (hn : rowR o' τ' (10 + r) 1 80 (R' r) (S r) (fun i => F (80 * r + i))) : RV o' τ' (tR x 4 R') (sA (sA y 21 S) 22 F) n m t := by
  refine ⟨h33, h.rl.tr (fun k tag c h1 h2 => H k tag c (by omega)), h.lb, fun j hj => (h.row j hj).tr (fun k c => H k _ c (by omega)), fun j hj => ?_, fun k hk => (h.kept k hk).tr (fun k' tag c q => H k' tag c (by omega)), h.vis⟩
  show rowR o' τ' (10 + j) 1 80 (R' j) (S j) (fun i => F (80 * j + i))
  by_cases e : j = r
  · rw [e]; exact hn
  · rw [hR j e, hS j e]
    exact ((h.text j hj).tr (fun k c => H k _ c (by omega))).g (fun i hi => hF j e i hi)
theorem XR.skf (j f : Nat) (hf : f < 6) (h : RV o τ x y n m t) : XR o (sfnd y f) (some (.int (-3))) (mX (o.1 + j, o.2) (xfnd x f)) := ⟨rfl, (o.1 + j, o.2), _, τ, n, m, t, rfl, ⟨rfl, rfl⟩, (h.skip j).found f hf⟩
end RWs
section XRw
variable (L : Nat) {o : OX} {τ : Nat → Nat} {x : XY} {y : MY} {n m t : Nat}
theorem x_row (hV : RV o τ x y n m t) (r s : Int32) : Ct yX0_row gX0_row (L + 13) 3 300 [.ref 1, .int r, .int s] (mX o x) (XR o (sp_row y r s)) := by
  refine Ct.ofW rfl (List.cons_ne_nil _ _) rfl rfl rfl ?_
  have h33 := hV.h33
  refine gl_iload_n dX0_row_0 rfl ?_
  refine gl_callS (x_isRow L _ _) dX0_row_1 q295 q296 q74 q297 rfl hX0_isRow rfl rfl (rmOk (by omega) rfl) ⟨by first | exact Nat.le_refl _ | exact Nat.zero_le _ | decide | (dsimp only [rm]; omega), by first | exact Nat.le_refl _ | exact Nat.zero_le _ | decide | (dsimp only [rm]; omega)⟩ (rt1 ?_)
  refine gl_if_eq (tgt := 13) dX0_row_4 (by decide) (fun h4 => ?_) (fun h4 => ?_)
  · rw [show sp_row y r s = (-1, y) by unfold sp_row; rw [if_pos (by simp [bI_fa h4])]]
    refine gl_iconst (v := (-1)) dX0_row_13 (by decide) ?_
    exact gl_iret dX0_row_14 rfl (XR.same hV) (hc := by first | exact Nat.zero_le _ | (dsimp only [rm]; omega)) (hs := by first | exact Nat.zero_le _ | (dsimp only [rm]; omega))
  · have hr := bI_tr h4
    refine gl_iload_n dX0_row_7 rfl ?_
    refine gl_bipush (v := nI 40) dX0_row_8 (by decide) ?_
    refine gl_icmp_le (tgt := 15) dX0_row_10 (by decide) (fun h10 => ?_) (fun h10 => ?_)
    · have h10' : ¬ 40 < s := k2_nlt h10
      obtain ⟨k, -, hk, rfl⟩ := inR_nat (a := 0) (b := 5) (by omega) (by omega) hr
      by_cases hs : s < 0
      · rw [show sp_row y (nI k) s = sfnd y 5 by unfold sp_row; rw [if_neg (by simp [hr, h10']), if_pos hs]]
        refine gl_aload_n dX0_row_15 rfl ?_
        refine gl_get (k := 5) dX0_row_16 rfl (rfl : vwCl[0]? = some (RX0, TX0, 30)) in_X0 (by decide) q117 rfl ?_
        refine gl_iload_n dX0_row_19 rfl ?_
        refine gl_iload_n dX0_row_20 rfl ?_
        refine gl_nase (h := 26) dX0_row_21 hs rfl (exR (by omega)) (by dsimp only [rm]; omega) (by dsimp only [rm]; omega) (Nat.le_trans (by decide) h33) (List.cons_ne_nil _ _) sr_row ?_
        refine gl_mem (μ1 := mX (o.1 + 3, o.2) x) rfl ?_
        refine gl_astore_n dX0_row_26 rfl rfl ?_
        refine gl_aload_n dX0_row_27 rfl ?_
        refine gl_iconst (v := nI 5) dX0_row_28 (by decide) ?_
        refine gl_callV (x_found L (o.1 + 3, o.2) x 5 (by omega)) dX0_row_29 q301 q303 qs2 q74 q304 rfl hX0_found rfl (rfl : vwCl[0]? = some (RX0, TX0, 30)) rfl rfl (rmOk (by omega) rfl) ⟨by first | exact Nat.le_refl _ | exact Nat.zero_le _ | decide | (dsimp only [rm]; omega), by first | exact Nat.le_refl _ | exact Nat.zero_le _ | decide | (dsimp only [rm]; omega)⟩ (rt1 ?_)
        exact gl_iret dX0_row_32 rfl (XR.skf 3 5 (by omega) hV) (hc := by first | exact Nat.zero_le _ | (dsimp only [rm]; omega)) (hs := by first | exact Nat.zero_le _ | (dsimp only [rm]; omega))
      · obtain ⟨s, hs1, rfl⟩ := nI_of hs
        have hs4 : s ≤ 40 := by
          rcases Nat.lt_or_ge 40 s with q | q
          · exact absurd (nI_lt (a := 40) q hs1) h10'
          · exact q
        rw [show sp_row y (nI k) (nI s) = (nI s, sA (sA y 19 (upd (y.2.2 19) k (nI s))) 20 (fillI (y.2.2 20) (40 * k) 0 40)) by unfold sp_row; rw [if_neg (by simp [hr, h10']), if_neg hs, ix_nI (show k < 100 by omega)]]
        refine gl_aload_n dX0_row_15 rfl ?_
        refine gl_get (k := 5) dX0_row_16 rfl (rfl : vwCl[0]? = some (RX0, TX0, 30)) in_X0 (by decide) q117 rfl ?_
        refine gl_iload_n dX0_row_19 rfl ?_
        refine gl_iload_n dX0_row_20 rfl ?_
        refine gl_newa (index := 0) (t := 0) (N := s) dX0_row_21 rfl q204 rfl (by omega) (pok_hi h33) (by dsimp only [rm]; omega) (by dsimp only [rm]; omega) ?_
        refine gl_mem (psh_hi h33) ?_
        refine gl_aast (j := k) dX0_row_23 rfl rfl (by omega) ((lk_hi h33).trans (va_up_self _ _ _)) (fun _ _ _ => ⟨rfl, by omega⟩) ?_
        refine gl_iload_n dX0_row_24 rfl ?_
        exact gl_iret dX0_row_25 rfl ⟨rfl, oN o _, tR x 3 (va_up (x.2.2.2.1 3) k (some o.1)), va_up τ o.1 k, n, m, t, rfl, ⟨rfl, rfl⟩, hV.rowS (r := k) (by omega) (Nat.le_succ_of_le h33) (fun _ _ _ _ q => q.new) (fun j hj => va_up_ne _ _ hj) (fun j hj => pk_un hj) (fun j hj i hi => by unfold fillI; rw [if_neg (by omega)]) (Or.inr ⟨o.1, s, fun _ => 0, va_up_self _ _ _, Own.news h33, pk_us, hs4, fun i hi => by show _ = fillI _ _ _ _ _; unfold fillI; rw [if_pos (by omega)]⟩)⟩ (hc := by first | exact Nat.zero_le _ | (dsimp only [rm]; omega)) (hs := by first | exact Nat.zero_le _ | (dsimp only [rm]; omega))
    · have h10' : 40 < s := k2_lt h10
      rw [show sp_row y r s = (-1, y) by unfold sp_row; rw [if_pos (by simp [h10'])]]
      refine gl_iconst (v := (-1)) dX0_row_13 (by decide) ?_
      exact gl_iret dX0_row_14 rfl (XR.same hV) (hc := by first | exact Nat.zero_le _ | (dsimp only [rm]; omega)) (hs := by first | exact Nat.zero_le _ | (dsimp only [rm]; omega))
def okAt (y : MY) (r i : Int32) : Prop := inR r 0 5 = true ∧ ¬ y.2.2 19 (ix r) < 0 ∧ inR i 0 (y.2.2 19 (ix r) - 1) = true
def XAt (o : OX) (x : XY) (y : MY) (r i : Int32) : Option Value → Mem → Prop := fun v μ => (okAt y r i ∧ v = some (.int (nI 1)) ∧ μ = mX o (tI x 2 (y.2.2 20 (40 * ix r + ix i)))) ∨ (¬ okAt y r i ∧ ∃ u, v = some (.int u) ∧ ¬ u = nI 1 ∧ XR o (sp_at y r i) v μ)
theorem x_at0 (hV : RV o τ x y n m t) (r i : Int32) : Ct yX0_at gX0_at (L + 13) 3 300 [.ref 1, .int r, .int i] (mX o x) (XAt o x y r i) := by
  refine Ct.ofW rfl (List.cons_ne_nil _ _) rfl rfl rfl ?_
  have h33 := hV.h33
  refine gl_iload_n dX0_at_0 rfl ?_
  refine gl_callS (x_isRow L _ _) dX0_at_1 q295 q296 q74 q297 rfl hX0_isRow rfl rfl (rmOk (by omega) rfl) ⟨by first | exact Nat.le_refl _ | exact Nat.zero_le _ | decide | (dsimp only [rm]; omega), by first | exact Nat.le_refl _ | exact Nat.zero_le _ | decide | (dsimp only [rm]; omega)⟩ (rt1 ?_)
  refine gl_if_ne (tgt := 9) dX0_at_4 (by decide) (fun h4 => ?_) (fun h4 => ?_)
  · have hr := bI_tr h4
    obtain ⟨k, -, hk, rfl⟩ := inR_nat (a := 0) (b := 5) (by omega) (by omega) hr
    have ek := ix_nI (show k < 100 by omega)
    rcases hV.row k (by omega) with ⟨e, es⟩ | ⟨p, s, f, e, hO, es, hs, hf⟩
    · refine gl_aload_n dX0_at_9 rfl ?_
      refine gl_aload_n dX0_at_10 rfl ?_
      refine gl_get (k := 5) dX0_at_11 rfl (rfl : vwCl[0]? = some (RX0, TX0, 30)) in_X0 (by decide) q117 rfl ?_
      refine gl_iload_n dX0_at_14 rfl ?_
      refine gl_aald (j := k) dX0_at_15 rfl rfl (by omega) e ?_
      refine gl_iload_n dX0_at_16 rfl ?_
      refine gl_exN (h := 23) (rz_iald dX0_at_17) rfl (exR (by omega)) (by dsimp only [rm]; omega) (by dsimp only [rm]; omega) (Nat.le_trans (by decide) h33) (List.cons_ne_nil _ _) sr_atN ?_
      refine gl_mem (μ1 := mX (o.1 + 1, o.2) x) rfl ?_
      refine gl_astore_n dX0_at_23 rfl rfl ?_
      refine gl_aload_n dX0_at_24 rfl ?_
      refine gl_iconst (v := nI 1) dX0_at_25 (by decide) ?_
      refine gl_callV (x_found L (o.1 + 1, o.2) x 1 (by omega)) dX0_at_26 q301 q303 qs2 q74 q304 rfl hX0_found rfl (rfl : vwCl[0]? = some (RX0, TX0, 30)) rfl rfl (rmOk (by omega) rfl) ⟨by first | exact Nat.le_refl _ | exact Nat.zero_le _ | decide | (dsimp only [rm]; omega), by first | exact Nat.le_refl _ | exact Nat.zero_le _ | decide | (dsimp only [rm]; omega)⟩ (rt1 ?_)
      exact gl_iret dX0_at_29 rfl (Or.inr ⟨fun q => q.2.1 (by rw [ek, es]; decide), -3, rfl, by decide, by rw [show sp_at y (nI k) i = sfnd y 1 by unfold sp_at; rw [if_pos hr, ek, es, if_pos (by decide)]]; exact XR.skf 1 1 (by omega) hV⟩) (hc := by first | exact Nat.zero_le _ | (dsimp only [rm]; omega)) (hs := by first | exact Nat.zero_le _ | (dsimp only [rm]; omega))
    · refine gl_aload_n dX0_at_9 rfl ?_
      refine gl_aload_n dX0_at_10 rfl ?_
      refine gl_get (k := 5) dX0_at_11 rfl (rfl : vwCl[0]? = some (RX0, TX0, 30)) in_X0 (by decide) q117 rfl ?_
      refine gl_iload_n dX0_at_14 rfl ?_
      refine gl_aald (j := k) dX0_at_15 rfl rfl (by omega) e ?_
      refine gl_iload_n dX0_at_16 rfl ?_
      by_cases hi : inR i 0 (nI s - 1) = true
      · obtain ⟨j, hj, rfl⟩ := inR_n (by omega) hi
        have ej := ix_nI (show j < 100 by omega)
        refine gl_iald (j := j) dX0_at_17 hO.lk rfl hj ?_
        rw [hf j hj]
        refine gl_iconst (v := nI 1) dX0_at_18 (by decide) ?_
        refine gl_callV (x_ask L o x _ _) dX0_at_19 q357 q359 qs3 q74 q360 rfl hX0_ask rfl (rfl : vwCl[0]? = some (RX0, TX0, 30)) rfl rfl (rmOk (by omega) rfl) ⟨by first | exact Nat.le_refl _ | exact Nat.zero_le _ | decide | (dsimp only [rm]; omega), by first | exact Nat.le_refl _ | exact Nat.zero_le _ | decide | (dsimp only [rm]; omega)⟩ (rt1 ?_)
        exact gl_iret dX0_at_22 rfl (Or.inl ⟨⟨hr, by rw [ek, es]; exact nI_pos (by omega), by rw [ek, es]; exact hi⟩, rfl, by rw [ek, ej]⟩) (hc := by first | exact Nat.zero_le _ | (dsimp only [rm]; omega)) (hs := by first | exact Nat.zero_le _ | (dsimp only [rm]; omega))
      · refine gl_aioI (h := 30) dX0_at_17 hO.lk (inR_out (by omega) hi) (by omega) rfl (exR (by omega)) (by dsimp only [rm]; omega) (by dsimp only [rm]; omega) (Nat.le_trans (by decide) h33) (List.cons_ne_nil _ _) sr_atB ?_
        refine gl_mem (μ1 := mX (o.1 + 3, o.2) x) rfl ?_
        refine gl_astore_n dX0_at_30 rfl rfl ?_
        refine gl_aload_n dX0_at_31 rfl ?_
        refine gl_iconst (v := nI 2) dX0_at_32 (by decide) ?_
        refine gl_callV (x_found L (o.1 + 3, o.2) x 2 (by omega)) dX0_at_33 q301 q303 qs2 q74 q304 rfl hX0_found rfl (rfl : vwCl[0]? = some (RX0, TX0, 30)) rfl rfl (rmOk (by omega) rfl) ⟨by first | exact Nat.le_refl _ | exact Nat.zero_le _ | decide | (dsimp only [rm]; omega), by first | exact Nat.le_refl _ | exact Nat.zero_le _ | decide | (dsimp only [rm]; omega)⟩ (rt1 ?_)
        exact gl_iret dX0_at_36 rfl (Or.inr ⟨fun q => hi (by have := q.2.2; rw [ek, es] at this; exact this), -3, rfl, by decide, by rw [show sp_at y (nI k) i = sfnd y 2 by unfold sp_at; rw [if_pos hr, ek, es, if_neg (nI_pos (by omega)), if_neg hi]]; exact XR.skf 3 2 (by omega) hV⟩) (hc := by first | exact Nat.zero_le _ | (dsimp only [rm]; omega)) (hs := by first | exact Nat.zero_le _ | (dsimp only [rm]; omega))
  · have hr : ¬ inR r 0 5 = true := by rw [bI_fa h4]; decide
    refine gl_iconst (v := (-1)) dX0_at_7 (by decide) ?_
    exact gl_iret dX0_at_8 rfl (Or.inr ⟨fun q => hr q.1, -1, rfl, by decide, by rw [show sp_at y r i = (-1, y) by unfold sp_at; rw [if_neg hr]]; exact XR.same hV⟩) (hc := by first | exact Nat.zero_le _ | (dsimp only [rm]; omega)) (hs := by first | exact Nat.zero_le _ | (dsimp only [rm]; omega))
theorem x_at (hV : RV o τ x y n m t) (r i : Int32) : Ct yX0_at gX0_at (L + 13) 3 300 [.ref 1, .int r, .int i] (mX o x) (XR o (sp_at y r i)) := (x_at0 L hV r i).mono (fun v μ h => by
  rcases h with ⟨⟨h1, h2, h3⟩, rfl, rfl⟩ | ⟨-, u, -, -, h⟩
  · rw [show sp_at y r i = sask y (y.2.2 20 (40 * ix r + ix i)) by unfold sp_at; rw [if_pos h1, if_neg h2, if_pos h3]]
    exact XR.oask _ hV
  · exact h)
theorem x_lay (hV : RV o τ x y n m t) (r i v : Int32) : Ct yX0_lay gX0_lay (L + 14) 3 300 [.ref 1, .int r, .int i, .int v] (mX o x) (XR o (sp_lay y r i v)) := by
  refine Ct.of rfl rfl rfl rfl rfl ?_
  have h33 := hV.h33
  refine gl_aload_n dX0_lay_0 rfl ?_
  refine gl_iload_n dX0_lay_1 rfl ?_
  refine gl_iload_n dX0_lay_2 rfl ?_
  refine gl_callVW (x_at0 L hV r i) dX0_lay_3 q309 q310 q311 q74 q312 (by decide) hX0_at rfl (rfl : vwCl[0]? = some (RX0, TX0, 30)) rfl rfl (rmOk (by omega) rfl) ⟨by first | exact Nat.le_refl _ | exact Nat.zero_le _ | decide | (dsimp only [rm]; omega), by first | exact Nat.le_refl _ | exact Nat.zero_le _ | decide | (dsimp only [rm]; omega)⟩ ?_
  rintro _ _ (⟨⟨h1, h2, h3⟩, rfl, rfl⟩ | ⟨hno, u, rfl, hu, hR⟩)
  · rw [show sp_lay y r i v = sask (sA y 20 (upd (y.2.2 20) (40 * ix r + ix i) v)) (y.2.2 20 (40 * ix r + ix i)) by unfold sp_lay; rw [if_pos h1, if_neg h2, if_pos h3]]
    obtain ⟨k, -, hk, rfl⟩ := inR_nat (a := 0) (b := 5) (by omega) (by omega) h1
    have ek := ix_nI (show k < 100 by omega)
    rw [ek] at h2 h3 ⊢
    rcases hV.row k (by omega) with ⟨e, es⟩ | ⟨p, s, f, e, hO, es, hs, hf⟩
    · rw [es] at h2
      exact absurd (by decide) h2
    · rw [es] at h3
      obtain ⟨j, hj, rfl⟩ := inR_n (by omega) h3
      rw [ix_nI (show j < 100 by omega)]
      refine gl_istore dX0_lay_6 rfl rfl ?_
      refine gl_iload dX0_lay_8 rfl ?_
      refine gl_iconst (v := nI 1) dX0_lay_10 (by decide) ?_
      refine gl_icmp_ne (tgt := 23) dX0_lay_11 (by decide) (fun h => absurd (rfl) h) (fun _ => ?_)
      refine gl_aload_n dX0_lay_14 rfl ?_
      refine gl_get (k := 5) dX0_lay_15 rfl (rfl : vwCl[0]? = some (RX0, TX0, 30)) in_X0 (by decide) q117 rfl ?_
      refine gl_iload_n dX0_lay_18 rfl ?_
      refine gl_aald (j := k) dX0_lay_19 rfl rfl (by omega) e ?_
      refine gl_iload_n dX0_lay_20 rfl ?_
      refine gl_iload_n dX0_lay_21 rfl ?_
      refine gl_iast (j := j) dX0_lay_22 hO.lk rfl hj ?_
      refine gl_mem (up_hi hO.1.1) ?_
      refine gl_iload dX0_lay_23 rfl ?_
      exact gl_iret dX0_lay_25 rfl ⟨rfl, oP o p _, tI x 2 _, τ, n, m, t, rfl, ⟨rfl, rfl⟩, (hV.rowS (r := k) (o' := oP o p (.inl (0, s, upd f j v))) (R' := x.2.2.2.1 3) (S := y.2.2 19) (F := upd (y.2.2 20) (40 * k + j) v) (by omega) h33 (fun _ _ _ ht q => q.put hO.2.1 ht) (fun _ _ => rfl) (fun _ _ => rfl) (fun j' hj' i hi => pk_un (by omega)) (Or.inr ⟨p, s, upd f j v, e, hO.puts, es, hs, fun i hi => by show upd f j v i = upd (y.2.2 20) (40 * k + j) v (40 * k + i); simp only [upd]; by_cases q : i = j <;> simp [q, hf i hi]⟩)).ask _⟩ (hc := by first | exact Nat.zero_le _ | (dsimp only [rm]; omega)) (hs := by first | exact Nat.zero_le _ | (dsimp only [rm]; omega))
  · rw [show sp_lay y r i v = sp_at y r i by
      unfold sp_lay sp_at
      by_cases q1 : inR r 0 5 = true
      · rw [if_pos q1, if_pos q1]
        by_cases q2 : y.2.2 19 (ix r) < 0
        · rw [if_pos q2, if_pos q2]
        · rw [if_neg q2, if_neg q2]
          have q3 : ¬ inR i 0 (y.2.2 19 (ix r) - 1) = true := fun q => hno ⟨q1, q2, q⟩
          rw [if_neg q3, if_neg q3]
      · rw [if_neg q1, if_neg q1]]
    refine gl_istore dX0_lay_6 rfl rfl ?_
    refine gl_iload dX0_lay_8 rfl ?_
    refine gl_iconst (v := nI 1) dX0_lay_10 (by decide) ?_
    refine gl_icmp_ne (tgt := 23) dX0_lay_11 (by decide) (fun _ => ?_) (fun h => absurd h (hu))
    refine gl_iload dX0_lay_23 rfl ?_
    exact gl_iret dX0_lay_25 rfl (hR) (hc := by first | exact Nat.zero_le _ | (dsimp only [rm]; omega)) (hs := by first | exact Nat.zero_le _ | (dsimp only [rm]; omega))
theorem x_tear (hV : RV o τ x y n m t) (r : Int32) : Ct yX0_tear gX0_tear (L + 13) 3 300 [.ref 1, .int r] (mX o x) (XR o (sp_tear y r)) := by
  refine Ct.of rfl rfl rfl rfl rfl ?_
  have h33 := hV.h33
  unfold sp_tear
  refine gl_iload_n dX0_tear_0 rfl ?_
  refine gl_callS (x_isRow L _ _) dX0_tear_1 q295 q296 q74 q297 rfl hX0_isRow rfl rfl (rmOk (by omega) rfl) ⟨by first | exact Nat.le_refl _ | exact Nat.zero_le _ | decide | (dsimp only [rm]; omega), by first | exact Nat.le_refl _ | exact Nat.zero_le _ | decide | (dsimp only [rm]; omega)⟩ (rt1 ?_)
  refine gl_if_ne (tgt := 9) dX0_tear_4 (by decide) (fun h4 => ?_) (fun h4 => ?_)
  · have hr := bI_tr h4
    rw [if_pos hr]
    obtain ⟨k, -, hk, rfl⟩ := inR_nat (a := 0) (b := 5) (by omega) (by omega) hr
    rw [ix_nI (show k < 100 by omega)]
    rcases hV.row k (by omega) with ⟨e, es⟩ | ⟨p, s, f, e, hO, es, hs, hf⟩
    · rw [es, if_pos (by decide)]
      refine gl_aload_n dX0_tear_9 rfl ?_
      refine gl_get (k := 5) dX0_tear_10 rfl (rfl : vwCl[0]? = some (RX0, TX0, 30)) in_X0 (by decide) q117 rfl ?_
      refine gl_iload_n dX0_tear_13 rfl ?_
      refine gl_aald (j := k) dX0_tear_14 rfl rfl (by omega) e ?_
      refine gl_ifnonnullN dX0_tear_15 ?_
      refine gl_aload_n dX0_tear_18 rfl ?_
      refine gl_iconst (v := nI 1) dX0_tear_19 (by decide) ?_
      refine gl_callV (x_found L o x 1 (by omega)) dX0_tear_20 q301 q303 qs2 q74 q304 rfl hX0_found rfl (rfl : vwCl[0]? = some (RX0, TX0, 30)) rfl rfl (rmOk (by omega) rfl) ⟨by first | exact Nat.le_refl _ | exact Nat.zero_le _ | decide | (dsimp only [rm]; omega), by first | exact Nat.le_refl _ | exact Nat.zero_le _ | decide | (dsimp only [rm]; omega)⟩ (rt1 ?_)
      exact gl_iret dX0_tear_23 rfl (XR.ofnd 1 (by omega) hV) (hc := by first | exact Nat.zero_le _ | (dsimp only [rm]; omega)) (hs := by first | exact Nat.zero_le _ | (dsimp only [rm]; omega))
    · rw [es, if_neg (nI_pos (by omega))]
      refine gl_aload_n dX0_tear_9 rfl ?_
      refine gl_get (k := 5) dX0_tear_10 rfl (rfl : vwCl[0]? = some (RX0, TX0, 30)) in_X0 (by decide) q117 rfl ?_
      refine gl_iload_n dX0_tear_13 rfl ?_
      refine gl_aald (j := k) dX0_tear_14 rfl rfl (by omega) e ?_
      refine gl_ifnonnull (tgt := 24) dX0_tear_15 (by decide) ?_
      refine gl_aload_n dX0_tear_24 rfl ?_
      refine gl_get (k := 5) dX0_tear_25 rfl (rfl : vwCl[0]? = some (RX0, TX0, 30)) in_X0 (by decide) q117 rfl ?_
      refine gl_iload_n dX0_tear_28 rfl ?_
      refine gl_null dX0_tear_29 ?_
      refine gl_aastN (j := k) dX0_tear_30 rfl rfl (by omega) ?_
      refine gl_iconst (v := nI 1) dX0_tear_31 (by decide) ?_
      exact gl_iret dX0_tear_32 rfl ⟨rfl, o, tR x 3 (va_up (x.2.2.2.1 3) k none), τ, n, m, t, rfl, ⟨rfl, rfl⟩, hV.rowS (r := k) (S := upd (y.2.2 19) k (-1)) (F := y.2.2 20) (by omega) h33 (fun _ _ _ _ q => q) (fun j hj => va_up_ne _ _ hj) (fun j hj => pk_un hj) (fun _ _ _ _ => rfl) (Or.inl ⟨va_up_self _ _ _, pk_us⟩)⟩ (hc := by first | exact Nat.zero_le _ | (dsimp only [rm]; omega)) (hs := by first | exact Nat.zero_le _ | (dsimp only [rm]; omega))
  · rw [if_neg (by simp [bI_fa h4])]
    refine gl_iconst (v := (-1)) dX0_tear_7 (by decide) ?_
    exact gl_iret dX0_tear_8 rfl (XR.same hV) (hc := by first | exact Nat.zero_le _ | (dsimp only [rm]; omega)) (hs := by first | exact Nat.zero_le _ | (dsimp only [rm]; omega))
theorem sumL_eq {f g : Nat → Int32} {a b : Nat} : ∀ k, (∀ i, i < k → f (a + i) = g (b + i)) → sumL f a k = sumL g b k
  | 0, _ => rfl
  | k + 1, h => by
    unfold sumL
    rw [sumL_eq k (fun i hi => h i (by omega)), h k (by omega)]
theorem x_mean (hV : RV o τ x y n m t) (r : Int32) : Ct yX0_mean gX0_mean (L + 13) 3 300 [.ref 1, .int r] (mX o x) (XR o (sp_mean y r)) := by
  refine Ct.ofW rfl (List.cons_ne_nil _ _) rfl rfl rfl ?_
  have h33 := hV.h33
  unfold sp_mean
  refine gl_iload_n dX0_mean_0 rfl ?_
  refine gl_callS (x_isRow L _ _) dX0_mean_1 q295 q296 q74 q297 rfl hX0_isRow rfl rfl (rmOk (by omega) rfl) ⟨by first | exact Nat.le_refl _ | exact Nat.zero_le _ | decide | (dsimp only [rm]; omega), by first | exact Nat.le_refl _ | exact Nat.zero_le _ | decide | (dsimp only [rm]; omega)⟩ (rt1 ?_)
  refine gl_if_ne (tgt := 9) dX0_mean_4 (by decide) (fun h4 => ?_) (fun h4 => ?_)
  · have hr := bI_tr h4
    rw [if_pos hr]
    obtain ⟨k, -, hk, rfl⟩ := inR_nat (a := 0) (b := 5) (by omega) (by omega) hr
    rw [ix_nI (show k < 100 by omega)]
    rcases hV.row k (by omega) with ⟨e, es⟩ | ⟨p, s, f, e, hO, es, hs, hf⟩
    · rw [es, if_pos (by decide)]
      refine gl_lconst (v := 0) dX0_mean_9 (by decide) ?_
      refine gl_lstore_n dX0_mean_10 rfl rfl ?_
      refine gl_aload_n dX0_mean_11 rfl ?_
      refine gl_get (k := 5) dX0_mean_12 rfl (rfl : vwCl[0]? = some (RX0, TX0, 30)) in_X0 (by decide) q117 rfl ?_
      refine gl_iload_n dX0_mean_15 rfl ?_
      refine gl_aald (j := k) dX0_mean_16 rfl rfl (by omega) e ?_
      refine gl_astoreN dX0_mean_17 rfl rfl ?_
      refine gl_aloadN dX0_mean_19 rfl ?_
      refine gl_exN (h := 70) (rz_alen dX0_mean_21) rfl (exR (by omega)) (by dsimp only [rm]; omega) (by dsimp only [rm]; omega) (Nat.le_trans (by decide) h33) (List.cons_ne_nil _ _) sr_meanN ?_
      refine gl_mem (μ1 := mX (o.1 + 1, o.2) x) rfl ?_
      refine gl_astore_n dX0_mean_70 rfl rfl ?_
      refine gl_aload_n dX0_mean_71 rfl ?_
      refine gl_iconst (v := nI 1) dX0_mean_72 (by decide) ?_
      refine gl_callV (x_found L (o.1 + 1, o.2) x 1 (by omega)) dX0_mean_73 q301 q303 qs2 q74 q304 rfl hX0_found rfl (rfl : vwCl[0]? = some (RX0, TX0, 30)) rfl rfl (rmOk (by omega) rfl) ⟨by first | exact Nat.le_refl _ | exact Nat.zero_le _ | decide | (dsimp only [rm]; omega), by first | exact Nat.le_refl _ | exact Nat.zero_le _ | decide | (dsimp only [rm]; omega)⟩ (rt1 ?_)
      exact gl_iret dX0_mean_76 rfl (XR.skf 1 1 (by omega) hV) (hc := by first | exact Nat.zero_le _ | (dsimp only [rm]; omega)) (hs := by first | exact Nat.zero_le _ | (dsimp only [rm]; omega))
    · rw [es, if_neg (nI_pos (by omega))]
      refine gl_lconst (v := 0) dX0_mean_9 (by decide) ?_
      refine gl_lstore_n dX0_mean_10 rfl rfl ?_
      refine gl_aload_n dX0_mean_11 rfl ?_
      refine gl_get (k := 5) dX0_mean_12 rfl (rfl : vwCl[0]? = some (RX0, TX0, 30)) in_X0 (by decide) q117 rfl ?_
      refine gl_iload_n dX0_mean_15 rfl ?_
      refine gl_aald (j := k) dX0_mean_16 rfl rfl (by omega) e ?_
      refine gl_astore dX0_mean_17 rfl rfl ?_
      refine gl_aload dX0_mean_19 rfl ?_
      refine gl_alen dX0_mean_21 hO.lk ?_
      refine gl_istore dX0_mean_22 rfl rfl ?_
      refine gl_iconst (v := nI 0) dX0_mean_24 (by decide) ?_
      refine gl_istore dX0_mean_25 rfl rfl ?_
      refine gl_loop (fun i => [some (.ref 1), some (.int (nI k)), some (.long (sumL f 0 i)), none, some (.ref p), some (.int (nI s)), some (.int (nI i)), none]) (fun _ => mX o x) s ?_ ?_
      · intro i hi ih
        refine gl_iload dX0_mean_27 rfl ?_
        refine gl_iload dX0_mean_29 rfl ?_
        refine gl_icmp_ge (tgt := 53) dX0_mean_31 (by decide) (fun h => absurd h (nI_ge hi (by omega))) (fun _ => ?_)
        refine gl_aload dX0_mean_34 rfl ?_
        refine gl_iload dX0_mean_36 rfl ?_
        refine gl_iald (j := i) dX0_mean_38 hO.lk rfl hi ?_
        refine gl_istore dX0_mean_39 rfl rfl ?_
        refine gl_lload_n dX0_mean_41 rfl ?_
        refine gl_iload dX0_mean_42 rfl ?_
        refine gl_i2l dX0_mean_44 ?_
        refine gl_ladd dX0_mean_45 ?_
        refine gl_lstore_n dX0_mean_46 rfl rfl ?_
        refine gl_iinc (v := (nI (i + 1))) dX0_mean_47 rfl (nI_1 _) rfl rfl ?_
        refine gl_goto (tgt := 27) dX0_mean_50 (by decide) ?_
        refine gl_drop 7 (gl_lcs ?_ ih)
        simp only [sumL, Nat.zero_add]
        rfl
      · refine gl_iload dX0_mean_27 rfl ?_
        refine gl_iload dX0_mean_29 rfl ?_
        refine gl_icmp_ge (tgt := 53) dX0_mean_31 (by decide) (fun _ => ?_) (fun h => absurd (nI_le (Nat.le_refl _) (by omega)) h)
        refine gl_aload_n dX0_mean_53 rfl ?_
        refine gl_lload_n dX0_mean_54 rfl ?_
        refine gl_aload_n dX0_mean_55 rfl ?_
        refine gl_get (k := 5) dX0_mean_56 rfl (rfl : vwCl[0]? = some (RX0, TX0, 30)) in_X0 (by decide) q117 rfl ?_
        refine gl_iload_n dX0_mean_59 rfl ?_
        refine gl_aald (j := k) dX0_mean_60 rfl rfl (by omega) e ?_
        refine gl_alen dX0_mean_61 hO.lk ?_
        refine gl_i2l dX0_mean_62 ?_
        by_cases h0 : nI s = 0
        · rw [if_pos h0, h0]
          refine gl_top (w := .long 0) rfl ?_
          refine gl_ae (h := 77) dX0_mean_63 rfl (exR (by omega)) (by dsimp only [rm]; omega) (by dsimp only [rm]; omega) (Nat.le_trans (by decide) h33) (List.cons_ne_nil _ _) sr_meanE ?_
          refine gl_mem (μ1 := mX (o.1 + 3, o.2) x) rfl ?_
          refine gl_astore_n dX0_mean_77 rfl rfl ?_
          refine gl_aload_n dX0_mean_78 rfl ?_
          refine gl_iconst (v := nI 4) dX0_mean_79 (by decide) ?_
          refine gl_callV (x_found L (o.1 + 3, o.2) x 4 (by omega)) dX0_mean_80 q301 q303 qs2 q74 q304 rfl hX0_found rfl (rfl : vwCl[0]? = some (RX0, TX0, 30)) rfl rfl (rmOk (by omega) rfl) ⟨by first | exact Nat.le_refl _ | exact Nat.zero_le _ | decide | (dsimp only [rm]; omega), by first | exact Nat.le_refl _ | exact Nat.zero_le _ | decide | (dsimp only [rm]; omega)⟩ (rt1 ?_)
          exact gl_iret dX0_mean_83 rfl (XR.skf 3 4 (by omega) hV) (hc := by first | exact Nat.zero_le _ | (dsimp only [rm]; omega)) (hs := by first | exact Nat.zero_le _ | (dsimp only [rm]; omega))
        · rw [if_neg h0, ix_nI (show s < 100 by omega)]
          have h1 : ¬ (nI s).toInt64 = 0 := by
            intro q
            apply h0
            have := congrArg Int64.toInt q
            rw [Int32.toInt_toInt64] at this
            exact Int32.toInt_inj.mp this
          rw [show sumL (y.2.2 20) (40 * k) s = sumL f 0 s from (sumL_eq s (fun i hi => by rw [Nat.zero_add]; exact (hf i hi).symm))]
          refine gl_ldiv dX0_mean_63 h1 ?_
          refine gl_l2i dX0_mean_64 ?_
          refine gl_iconst (v := nI 1) dX0_mean_65 (by decide) ?_
          refine gl_callV (x_ask L o x _ _) dX0_mean_66 q357 q359 qs3 q74 q360 rfl hX0_ask rfl (rfl : vwCl[0]? = some (RX0, TX0, 30)) rfl rfl (rmOk (by omega) rfl) ⟨by first | exact Nat.le_refl _ | exact Nat.zero_le _ | decide | (dsimp only [rm]; omega), by first | exact Nat.le_refl _ | exact Nat.zero_le _ | decide | (dsimp only [rm]; omega)⟩ (rt1 ?_)
          exact gl_iret dX0_mean_69 rfl (XR.oask _ hV) (hc := by first | exact Nat.zero_le _ | (dsimp only [rm]; omega)) (hs := by first | exact Nat.zero_le _ | (dsimp only [rm]; omega))
  · rw [if_neg (by simp [bI_fa h4])]
    refine gl_iconst (v := (-1)) dX0_mean_7 (by decide) ?_
    exact gl_iret dX0_mean_8 rfl (XR.same hV) (hc := by first | exact Nat.zero_le _ | (dsimp only [rm]; omega)) (hs := by first | exact Nat.zero_le _ | (dsimp only [rm]; omega))
theorem x_text (hV : RV o τ x y n m t) (r s : Int32) : Ct yX0_text gX0_text (L + 13) 3 300 [.ref 1, .int r, .int s] (mX o x) (XR o (sp_text y r s)) := by
  refine Ct.ofW rfl (List.cons_ne_nil _ _) rfl rfl rfl ?_
  have h33 := hV.h33
  refine gl_iload_n dX0_text_0 rfl ?_
  refine gl_callS (x_isText L _ _) dX0_text_1 q396 q397 q74 q398 rfl hX0_isText rfl rfl (rmOk (by omega) rfl) ⟨by first | exact Nat.le_refl _ | exact Nat.zero_le _ | decide | (dsimp only [rm]; omega), by first | exact Nat.le_refl _ | exact Nat.zero_le _ | decide | (dsimp only [rm]; omega)⟩ (rt1 ?_)
  refine gl_if_eq (tgt := 13) dX0_text_4 (by decide) (fun h4 => ?_) (fun h4 => ?_)
  · rw [show sp_text y r s = (-1, y) by unfold sp_text; rw [if_pos (by simp [bI_fa h4])]]
    refine gl_iconst (v := (-1)) dX0_text_13 (by decide) ?_
    exact gl_iret dX0_text_14 rfl (XR.same hV) (hc := by first | exact Nat.zero_le _ | (dsimp only [rm]; omega)) (hs := by first | exact Nat.zero_le _ | (dsimp only [rm]; omega))
  · have hr := bI_tr h4
    refine gl_iload_n dX0_text_7 rfl ?_
    refine gl_bipush (v := nI 80) dX0_text_8 (by decide) ?_
    refine gl_icmp_le (tgt := 15) dX0_text_10 (by decide) (fun h10 => ?_) (fun h10 => ?_)
    · have h10' : ¬ 80 < s := k2_nlt h10
      obtain ⟨k, -, hk, rfl⟩ := inR_nat (a := 0) (b := 3) (by omega) (by omega) hr
      by_cases hs : s < 0
      · rw [show sp_text y (nI k) s = sfnd y 5 by unfold sp_text; rw [if_neg (by simp [hr, h10']), if_pos hs]]
        refine gl_iload_n dX0_text_15 rfl ?_
        refine gl_nase (h := 49) dX0_text_16 hs rfl (exR (by omega)) (by dsimp only [rm]; omega) (by dsimp only [rm]; omega) (Nat.le_trans (by decide) h33) (List.cons_ne_nil _ _) sr_text ?_
        refine gl_mem (μ1 := mX (o.1 + 3, o.2) x) rfl ?_
        refine gl_astore_n dX0_text_49 rfl rfl ?_
        refine gl_aload_n dX0_text_50 rfl ?_
        refine gl_iconst (v := nI 5) dX0_text_51 (by decide) ?_
        refine gl_callV (x_found L (o.1 + 3, o.2) x 5 (by omega)) dX0_text_52 q301 q303 qs2 q74 q304 rfl hX0_found rfl (rfl : vwCl[0]? = some (RX0, TX0, 30)) rfl rfl (rmOk (by omega) rfl) ⟨by first | exact Nat.le_refl _ | exact Nat.zero_le _ | decide | (dsimp only [rm]; omega), by first | exact Nat.le_refl _ | exact Nat.zero_le _ | decide | (dsimp only [rm]; omega)⟩ (rt1 ?_)
        exact gl_iret dX0_text_55 rfl (XR.skf 3 5 (by omega) hV) (hc := by first | exact Nat.zero_le _ | (dsimp only [rm]; omega)) (hs := by first | exact Nat.zero_le _ | (dsimp only [rm]; omega))
      · obtain ⟨s, hs1, rfl⟩ := nI_of hs
        have hs4 : s ≤ 80 := by
          rcases Nat.lt_or_ge 80 s with q | q
          · exact absurd (nI_lt (a := 80) q hs1) h10'
          · exact q
        rw [show sp_text y (nI k) (nI s) = (nI s, sA (sA y 21 (upd (y.2.2 21) k (nI s))) 22 (fillI (y.2.2 22) (80 * k) (nI 32) 80)) by unfold sp_text; rw [if_neg (by simp [hr, h10']), if_neg hs, ix_nI (show k < 100 by omega)]]
        refine gl_iload_n dX0_text_15 rfl ?_
        refine gl_newa (index := 0) (t := 1) (N := s) dX0_text_16 rfl q290 rfl (by omega) (pok_hi h33) (by dsimp only [rm]; omega) (by dsimp only [rm]; omega) ?_
        refine gl_mem (psh_hi h33) ?_
        refine gl_astore_n dX0_text_18 rfl rfl ?_
        refine gl_iconst (v := nI 0) dX0_text_19 (by decide) ?_
        refine gl_istore dX0_text_20 rfl rfl ?_
        refine gl_mem (μ1 := mX (oN o (.inl (1, s, fillI (fun _ => 0) 0 (nI 32) 0))) x) (by rw [fill_0]) ?_
        refine gl_loop (fun i => [some (.ref 1), some (.int (nI k)), some (.int (nI s)), some (.ref o.1), some (.int (nI i))]) (fun i => mX (oN o (.inl (1, s, fillI (fun _ => 0) 0 (nI 32) i))) x) s ?_ ?_
        · intro i hi ih
          refine gl_iload dX0_text_22 rfl ?_
          refine gl_iload_n dX0_text_24 rfl ?_
          refine gl_icmp_ge (tgt := 40) dX0_text_25 (by decide) (fun h => absurd h (nI_ge hi (by omega))) (fun _ => ?_)
          refine gl_aload_n dX0_text_28 rfl ?_
          refine gl_iload dX0_text_29 rfl ?_
          refine gl_bipush (v := nI 32) dX0_text_31 (by decide) ?_
          have hlk : lk (mX (oN o (.inl (1, s, fillI (fun _ => 0) 0 (nI 32) i))) x) o.1 = some (.inl (1, s, fillI (fun _ => 0) 0 (nI 32) i)) := (lk_hi h33).trans (va_up_self _ _ _)
          refine gl_bast (j := i) dX0_text_33 hlk rfl hi ?_
          refine gl_mem (μ1 := mX (oN o (.inl (1, s, fillI (fun _ => 0) 0 (nI 32) (i + 1)))) x) (by rw [up_hi h33, oP_oN, ← fill_s, Nat.zero_add]; rfl) ?_
          refine gl_iinc (v := (nI (i + 1))) dX0_text_34 rfl (nI_1 _) rfl rfl ?_
          refine gl_goto (tgt := 22) dX0_text_37 (by decide) ?_
          exact ih
        · refine gl_iload dX0_text_22 rfl ?_
          refine gl_iload_n dX0_text_24 rfl ?_
          refine gl_icmp_ge (tgt := 40) dX0_text_25 (by decide) (fun _ => ?_) (fun h => absurd (nI_le (Nat.le_refl _) (by omega)) h)
          refine gl_aload_n dX0_text_40 rfl ?_
          refine gl_get (k := 6) dX0_text_41 rfl (rfl : vwCl[0]? = some (RX0, TX0, 30)) in_X0 (by decide) q118 rfl ?_
          refine gl_iload_n dX0_text_44 rfl ?_
          refine gl_aload_n dX0_text_45 rfl ?_
          refine gl_aast (j := k) dX0_text_46 rfl rfl (by omega) ((lk_hi h33).trans (va_up_self _ _ _)) (fun _ _ _ => ⟨rfl, by omega⟩) ?_
          refine gl_iload_n dX0_text_47 rfl ?_
          exact gl_iret dX0_text_48 rfl ⟨rfl, oN o _, tR x 4 (va_up (x.2.2.2.1 4) k (some o.1)), va_up τ o.1 (10 + k), n, m, t, rfl, ⟨rfl, rfl⟩, hV.textS (r := k) (by omega) (Nat.le_succ_of_le h33) (fun _ _ _ _ q => q.new) (fun j hj => va_up_ne _ _ hj) (fun j hj => pk_un hj) (fun j hj i hi => by unfold fillI; rw [if_neg (by omega)]) (Or.inr ⟨o.1, s, _, va_up_self _ _ _, Own.news h33, pk_us, hs4, fun i hi => by show fillI _ _ _ _ _ = fillI _ _ _ _ _; unfold fillI; rw [if_pos (by omega), if_pos (by omega)]⟩)⟩ (hc := by first | exact Nat.zero_le _ | (dsimp only [rm]; omega)) (hs := by first | exact Nat.zero_le _ | (dsimp only [rm]; omega))
    · have h10' : 80 < s := k2_lt h10
      rw [show sp_text y r s = (-1, y) by unfold sp_text; rw [if_pos (by simp [h10'])]]
      refine gl_iconst (v := (-1)) dX0_text_13 (by decide) ?_
      exact gl_iret dX0_text_14 rfl (XR.same hV) (hc := by first | exact Nat.zero_le _ | (dsimp only [rm]; omega)) (hs := by first | exact Nat.zero_le _ | (dsimp only [rm]; omega))
theorem x_put (hV : RV o τ x y n m t) (r i v : Int32) : Ct yX0_put gX0_put (L + 13) 3 300 [.ref 1, .int r, .int i, .int v] (mX o x) (XR o (sp_putB y r i v)) := by
  refine Ct.ofW rfl (List.cons_ne_nil _ _) rfl rfl rfl ?_
  have h33 := hV.h33
  unfold sp_putB
  refine gl_iload_n dX0_put_0 rfl ?_
  refine gl_callS (x_isText L _ _) dX0_put_1 q396 q397 q74 q398 rfl hX0_isText rfl rfl (rmOk (by omega) rfl) ⟨by first | exact Nat.le_refl _ | exact Nat.zero_le _ | decide | (dsimp only [rm]; omega), by first | exact Nat.le_refl _ | exact Nat.zero_le _ | decide | (dsimp only [rm]; omega)⟩ (rt1 ?_)
  refine gl_if_ne (tgt := 9) dX0_put_4 (by decide) (fun h4 => ?_) (fun h4 => ?_)
  · have hr := bI_tr h4
    rw [if_pos hr]
    obtain ⟨k, -, hk, rfl⟩ := inR_nat (a := 0) (b := 3) (by omega) (by omega) hr
    rw [ix_nI (show k < 100 by omega)]
    rcases hV.text k (by omega) with ⟨e, es⟩ | ⟨p, s, f, e, hO, es, hs, hf⟩
    · rw [es, if_pos (by decide)]
      refine gl_aload_n dX0_put_9 rfl ?_
      refine gl_get (k := 6) dX0_put_10 rfl (rfl : vwCl[0]? = some (RX0, TX0, 30)) in_X0 (by decide) q118 rfl ?_
      refine gl_iload_n dX0_put_13 rfl ?_
      refine gl_aald (j := k) dX0_put_14 rfl rfl (by omega) e ?_
      refine gl_iload_n dX0_put_15 rfl ?_
      refine gl_exN (h := 36) (rz_bald dX0_put_16) rfl (exR (by omega)) (by dsimp only [rm]; omega) (by dsimp only [rm]; omega) (Nat.le_trans (by decide) h33) (List.cons_ne_nil _ _) sr_putN ?_
      refine gl_mem (μ1 := mX (o.1 + 1, o.2) x) rfl ?_
      refine gl_astore dX0_put_36 rfl rfl ?_
      refine gl_aload_n dX0_put_38 rfl ?_
      refine gl_iconst (v := nI 1) dX0_put_39 (by decide) ?_
      refine gl_callV (x_found L (o.1 + 1, o.2) x 1 (by omega)) dX0_put_40 q301 q303 qs2 q74 q304 rfl hX0_found rfl (rfl : vwCl[0]? = some (RX0, TX0, 30)) rfl rfl (rmOk (by omega) rfl) ⟨by first | exact Nat.le_refl _ | exact Nat.zero_le _ | decide | (dsimp only [rm]; omega), by first | exact Nat.le_refl _ | exact Nat.zero_le _ | decide | (dsimp only [rm]; omega)⟩ (rt1 ?_)
      exact gl_iret dX0_put_43 rfl (XR.skf 1 1 (by omega) hV) (hc := by first | exact Nat.zero_le _ | (dsimp only [rm]; omega)) (hs := by first | exact Nat.zero_le _ | (dsimp only [rm]; omega))
    · rw [es, if_neg (nI_pos (by omega))]
      refine gl_aload_n dX0_put_9 rfl ?_
      refine gl_get (k := 6) dX0_put_10 rfl (rfl : vwCl[0]? = some (RX0, TX0, 30)) in_X0 (by decide) q118 rfl ?_
      refine gl_iload_n dX0_put_13 rfl ?_
      refine gl_aald (j := k) dX0_put_14 rfl rfl (by omega) e ?_
      refine gl_iload_n dX0_put_15 rfl ?_
      by_cases hi : inR i 0 (nI s - 1) = true
      · rw [if_pos hi]
        obtain ⟨j, hj, rfl⟩ := inR_n (by omega) hi
        rw [ix_nI (show j < 100 by omega)]
        refine gl_bald (j := j) dX0_put_16 hO.lk rfl hj ?_
        rw [hf j hj]
        refine gl_istore dX0_put_17 rfl rfl ?_
        refine gl_aload_n dX0_put_19 rfl ?_
        refine gl_get (k := 6) dX0_put_20 rfl (rfl : vwCl[0]? = some (RX0, TX0, 30)) in_X0 (by decide) q118 rfl ?_
        refine gl_iload_n dX0_put_23 rfl ?_
        refine gl_aald (j := k) dX0_put_24 rfl rfl (by omega) e ?_
        refine gl_iload_n dX0_put_25 rfl ?_
        refine gl_iload_n dX0_put_26 rfl ?_
        refine gl_i2b dX0_put_27 ?_
        refine gl_bast (j := j) dX0_put_28 hO.lk rfl hj ?_
        refine gl_mem (up_hi hO.1.1) ?_
        rw [i8_twice]
        refine gl_iload dX0_put_29 rfl ?_
        refine gl_sipush (v := nI 1000) dX0_put_31 (by decide) ?_
        refine gl_iadd dX0_put_34 ?_
        exact gl_iret dX0_put_35 rfl ⟨rfl, oP o p _, x, τ, n, m, t, rfl, ⟨rfl, rfl⟩, hV.textS (r := k) (o' := oP o p (.inl (1, s, upd f j v.toInt8.toInt32))) (R' := x.2.2.2.1 4) (S := y.2.2 21) (F := upd (y.2.2 22) (80 * k + j) v.toInt8.toInt32) (by omega) h33 (fun _ _ _ ht q => q.put hO.2.1 ht) (fun _ _ => rfl) (fun _ _ => rfl) (fun j' hj' i hi => pk_un (by omega)) (Or.inr ⟨p, s, upd f j v.toInt8.toInt32, e, hO.puts, es, hs, fun i hi => by show upd f j _ i = upd (y.2.2 22) (80 * k + j) _ (80 * k + i); simp only [upd]; by_cases q : i = j <;> simp [q, hf i hi]⟩)⟩ (hc := by first | exact Nat.zero_le _ | (dsimp only [rm]; omega)) (hs := by first | exact Nat.zero_le _ | (dsimp only [rm]; omega))
      · rw [if_neg hi]
        refine gl_aioB (h := 44) dX0_put_16 hO.lk (inR_out (by omega) hi) (by omega) rfl (exR (by omega)) (by dsimp only [rm]; omega) (by dsimp only [rm]; omega) (Nat.le_trans (by decide) h33) (List.cons_ne_nil _ _) sr_putB ?_
        refine gl_mem (μ1 := mX (o.1 + 3, o.2) x) rfl ?_
        refine gl_astore dX0_put_44 rfl rfl ?_
        refine gl_aload_n dX0_put_46 rfl ?_
        refine gl_iconst (v := nI 2) dX0_put_47 (by decide) ?_
        refine gl_callV (x_found L (o.1 + 3, o.2) x 2 (by omega)) dX0_put_48 q301 q303 qs2 q74 q304 rfl hX0_found rfl (rfl : vwCl[0]? = some (RX0, TX0, 30)) rfl rfl (rmOk (by omega) rfl) ⟨by first | exact Nat.le_refl _ | exact Nat.zero_le _ | decide | (dsimp only [rm]; omega), by first | exact Nat.le_refl _ | exact Nat.zero_le _ | decide | (dsimp only [rm]; omega)⟩ (rt1 ?_)
        exact gl_iret dX0_put_51 rfl (XR.skf 3 2 (by omega) hV) (hc := by first | exact Nat.zero_le _ | (dsimp only [rm]; omega)) (hs := by first | exact Nat.zero_le _ | (dsimp only [rm]; omega))
  · rw [if_neg (by simp [bI_fa h4])]
    refine gl_iconst (v := (-1)) dX0_put_7 (by decide) ?_
    exact gl_iret dX0_put_8 rfl (XR.same hV) (hc := by first | exact Nat.zero_le _ | (dsimp only [rm]; omega)) (hs := by first | exact Nat.zero_le _ | (dsimp only [rm]; omega))
end XRw

