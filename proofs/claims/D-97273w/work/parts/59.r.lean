/-! the component's public readers; shelves, ages, truths -/
set_option maxRecDepth 100000
section XQ
variable (L : Nat) {o : OX} {τ : Nat → Nat} {x : XY} {y : MY} {n m t : Nat}
theorem x_card (hV : RV o τ x y n m t) (c what : Int32) : Ct yX0_card gX0_card (L + 16) 0 0 [.ref 1, .int c, .int what] (mX o x) (XR o (sp_card y m c what)) := by
  refine Ct.of rfl rfl rfl rfl rfl ?_
  have h7 := hV.lb.c7
  unfold sp_card
  rw [hV.lb.c]
  refine gl_aload_n dX0_card_0 rfl ?_
  refine gl_iload_n dX0_card_1 rfl ?_
  refine gl_callV (x_isCard L o x hV.rl _) dX0_card_2 q517 q519 qs9 q74 q520 rfl hX0_isCard rfl (rfl : vwCl[0]? = some (RX0, TX0, 30)) rfl rfl (rmOk (by omega) rfl) ⟨by first | exact Nat.le_refl _ | exact Nat.zero_le _ | decide | (dsimp only [rm]; omega), by first | exact Nat.le_refl _ | exact Nat.zero_le _ | decide | (dsimp only [rm]; omega)⟩ (rt1 ?_)
  refine gl_if_eq (tgt := 31) dX0_card_5 (by decide) (fun h5 => ?_) (fun h5 => ?_)
  · rw [if_neg (by simp [bI_fa h5])]
    refine gl_iconst (v := (-1)) dX0_card_31 (by decide) ?_
    exact gl_iret dX0_card_32 rfl (XR.same hV) (hc := by first | exact Nat.zero_le _ | (dsimp only [rm]; omega)) (hs := by first | exact Nat.zero_le _ | (dsimp only [rm]; omega))
  · have hc := bI_tr h5
    refine gl_iload_n dX0_card_8 rfl ?_
    refine gl_iconst (v := nI 0) dX0_card_9 (by decide) ?_
    refine gl_iconst (v := nI 5) dX0_card_10 (by decide) ?_
    refine gl_callS (x_isIn L _ _ _ _) dX0_card_11 q298 q299 q74 q300 rfl hX0_isIn rfl rfl (rmOk (by omega) rfl) ⟨by first | exact Nat.le_refl _ | exact Nat.zero_le _ | decide | (dsimp only [rm]; omega), by first | exact Nat.le_refl _ | exact Nat.zero_le _ | decide | (dsimp only [rm]; omega)⟩ (rt1 ?_)
    refine gl_if_eq (tgt := 31) dX0_card_14 (by decide) (fun h14 => ?_) (fun h14 => ?_)
    · rw [if_neg (by have z : inR what 0 5 = false := bI_fa h14; simp [z])]
      refine gl_iconst (v := (-1)) dX0_card_31 (by decide) ?_
      exact gl_iret dX0_card_32 rfl (XR.same hV) (hc := by first | exact Nat.zero_le _ | (dsimp only [rm]; omega)) (hs := by first | exact Nat.zero_le _ | (dsimp only [rm]; omega))
    · have hw : inR what (nI 0) (nI 5) = true := bI_tr h14
      rw [if_pos (by rw [hc]; exact hw)]
      obtain ⟨c, hc', rfl⟩ := inR_n (by omega) hc
      clear hc
      have hc := hc'
      obtain ⟨wh, -, hw', rfl⟩ := inR_nat (by omega) (by omega) hw
      rw [ix_nI (show c < 100 by omega)]
      refine gl_aload_n dX0_card_17 rfl ?_
      refine gl_aload_n dX0_card_18 rfl ?_
      refine gl_iload_n dX0_card_19 rfl ?_
      refine gl_iload_n dX0_card_20 rfl ?_
      refine gl_callV (x_cardTells L o x hV.rl hV.lb c wh hc hw') dX0_card_21 q521 q523 qs10 q74 q524 rfl hX0_cardTells rfl (rfl : vwCl[0]? = some (RX0, TX0, 30)) rfl rfl (rmOk (by omega) rfl) ⟨by first | exact Nat.le_refl _ | exact Nat.zero_le _ | decide | (dsimp only [rm]; omega), by first | exact Nat.le_refl _ | exact Nat.zero_le _ | decide | (dsimp only [rm]; omega)⟩ (rt1 ?_)
      refine gl_iconst (v := nI 1) dX0_card_24 (by decide) ?_
      refine gl_callV (x_ask L o x _ _) dX0_card_25 q357 q359 qs3 q74 q360 rfl hX0_ask rfl (rfl : vwCl[0]? = some (RX0, TX0, 30)) rfl rfl (rmOk (by omega) rfl) ⟨by first | exact Nat.le_refl _ | exact Nat.zero_le _ | decide | (dsimp only [rm]; omega), by first | exact Nat.le_refl _ | exact Nat.zero_le _ | decide | (dsimp only [rm]; omega)⟩ (rt1 ?_)
      refine gl_goto (tgt := 32) dX0_card_28 (by decide) ?_
      exact gl_iret dX0_card_32 rfl (XR.oask _ hV) (hc := by first | exact Nat.zero_le _ | (dsimp only [rm]; omega)) (hs := by first | exact Nat.zero_le _ | (dsimp only [rm]; omega))
theorem x_question (hV : RV o τ x y n m t) (q what : Int32) : Ct yX0_question gX0_question (L + 13) 0 0 [.ref 1, .int q, .int what] (mX o x) (XR o (sp_question y q what)) := by
  refine Ct.of rfl rfl rfl rfl rfl ?_
  have h7q := hV.lb.q7
  unfold sp_question
  rw [hV.lb.q]
  refine gl_aload_n dX0_question_0 rfl ?_
  refine gl_iload_n dX0_question_1 rfl ?_
  refine gl_callV (x_isQuestion L o x hV.rl _) dX0_question_2 q592 q594 qs12 q74 q595 rfl hX0_isQuestion rfl (rfl : vwCl[0]? = some (RX0, TX0, 30)) rfl rfl (rmOk (by omega) rfl) ⟨by first | exact Nat.le_refl _ | exact Nat.zero_le _ | decide | (dsimp only [rm]; omega), by first | exact Nat.le_refl _ | exact Nat.zero_le _ | decide | (dsimp only [rm]; omega)⟩ (rt1 ?_)
  refine gl_if_eq (tgt := 31) dX0_question_5 (by decide) (fun h5 => ?_) (fun h5 => ?_)
  · rw [if_neg (by simp [bI_fa h5])]
    refine gl_iconst (v := (-1)) dX0_question_31 (by decide) ?_
    exact gl_iret dX0_question_32 rfl (XR.same hV) (hc := by first | exact Nat.zero_le _ | (dsimp only [rm]; omega)) (hs := by first | exact Nat.zero_le _ | (dsimp only [rm]; omega))
  · have hc := bI_tr h5
    refine gl_iload_n dX0_question_8 rfl ?_
    refine gl_iconst (v := nI 0) dX0_question_9 (by decide) ?_
    refine gl_iconst (v := nI 5) dX0_question_10 (by decide) ?_
    refine gl_callS (x_isIn L _ _ _ _) dX0_question_11 q298 q299 q74 q300 rfl hX0_isIn rfl rfl (rmOk (by omega) rfl) ⟨by first | exact Nat.le_refl _ | exact Nat.zero_le _ | decide | (dsimp only [rm]; omega), by first | exact Nat.le_refl _ | exact Nat.zero_le _ | decide | (dsimp only [rm]; omega)⟩ (rt1 ?_)
    refine gl_if_eq (tgt := 31) dX0_question_14 (by decide) (fun h14 => ?_) (fun h14 => ?_)
    · rw [if_neg (by have z : inR what 0 5 = false := bI_fa h14; simp [z])]
      refine gl_iconst (v := (-1)) dX0_question_31 (by decide) ?_
      exact gl_iret dX0_question_32 rfl (XR.same hV) (hc := by first | exact Nat.zero_le _ | (dsimp only [rm]; omega)) (hs := by first | exact Nat.zero_le _ | (dsimp only [rm]; omega))
    · have hw : inR what (nI 0) (nI 5) = true := bI_tr h14
      rw [if_pos (by rw [hc]; exact hw)]
      obtain ⟨q, hq, rfl⟩ := inR_n (by omega) hc
      obtain ⟨wh, -, hw', rfl⟩ := inR_nat (by omega) (by omega) hw
      rw [ix_nI (show q < 100 by omega), ix_nI (show wh < 100 by omega)]
      refine gl_aload_n dX0_question_17 rfl ?_
      refine gl_aload_n dX0_question_18 rfl ?_
      refine gl_iload_n dX0_question_19 rfl ?_
      refine gl_iload_n dX0_question_20 rfl ?_
      refine gl_callV (x_questionTells L o x hV.rl hV.lb q wh hq hw') dX0_question_21 q596 q598 qs13 q74 q599 rfl hX0_questionTells rfl (rfl : vwCl[0]? = some (RX0, TX0, 30)) rfl rfl (rmOk (by omega) rfl) ⟨by first | exact Nat.le_refl _ | exact Nat.zero_le _ | decide | (dsimp only [rm]; omega), by first | exact Nat.le_refl _ | exact Nat.zero_le _ | decide | (dsimp only [rm]; omega)⟩ (rt1 ?_)
      refine gl_iconst (v := nI 1) dX0_question_24 (by decide) ?_
      refine gl_callV (x_ask L o x _ _) dX0_question_25 q357 q359 qs3 q74 q360 rfl hX0_ask rfl (rfl : vwCl[0]? = some (RX0, TX0, 30)) rfl rfl (rmOk (by omega) rfl) ⟨by first | exact Nat.le_refl _ | exact Nat.zero_le _ | decide | (dsimp only [rm]; omega), by first | exact Nat.le_refl _ | exact Nat.zero_le _ | decide | (dsimp only [rm]; omega)⟩ (rt1 ?_)
      refine gl_goto (tgt := 32) dX0_question_28 (by decide) ?_
      exact gl_iret dX0_question_32 rfl (XR.oask _ hV) (hc := by first | exact Nat.zero_le _ | (dsimp only [rm]; omega)) (hs := by first | exact Nat.zero_le _ | (dsimp only [rm]; omega))
theorem x_fits (hV : RV o τ x y n m t) (q : Int32) : Ct yX0_fits gX0_fits (L + 18) 0 0 [.ref 1, .int q] (mX o x) (XR o (sp_fits y n q)) := by
  refine Ct.of rfl rfl rfl rfl rfl ?_
  have h7q := hV.lb.q7
  unfold sp_fits
  rw [hV.lb.q]
  refine gl_aload_n dX0_fits_0 rfl ?_
  refine gl_iload_n dX0_fits_1 rfl ?_
  refine gl_callV (x_isQuestion L o x hV.rl _) dX0_fits_2 q592 q594 qs12 q74 q595 rfl hX0_isQuestion rfl (rfl : vwCl[0]? = some (RX0, TX0, 30)) rfl rfl (rmOk (by omega) rfl) ⟨by first | exact Nat.le_refl _ | exact Nat.zero_le _ | decide | (dsimp only [rm]; omega), by first | exact Nat.le_refl _ | exact Nat.zero_le _ | decide | (dsimp only [rm]; omega)⟩ (rt1 ?_)
  refine gl_if_eq (tgt := 16) dX0_fits_5 (by decide) (fun h5 => ?_) (fun h5 => ?_)
  · rw [if_neg (by simp [bI_fa h5])]
    refine gl_iconst (v := (-1)) dX0_fits_16 (by decide) ?_
    exact gl_iret dX0_fits_17 rfl (XR.same hV) (hc := by first | exact Nat.zero_le _ | (dsimp only [rm]; omega)) (hs := by first | exact Nat.zero_le _ | (dsimp only [rm]; omega))
  · have hr := bI_tr h5
    rw [if_pos hr]
    obtain ⟨q, hq, rfl⟩ := inR_n (by omega) hr
    rw [ix_nI (show q < 100 by omega)]
    refine gl_aload_n dX0_fits_8 rfl ?_
    refine gl_iload_n dX0_fits_9 rfl ?_
    refine gl_callV (x_fitSet L o x hV.rl hV.lb q hq) dX0_fits_10 q727 q729 qs20 q74 q730 rfl hX0_fitSet rfl (rfl : vwCl[0]? = some (RX0, TX0, 30)) rfl rfl (rmOk (by omega) rfl) ⟨by first | exact Nat.le_refl _ | exact Nat.zero_le _ | decide | (dsimp only [rm]; omega), by first | exact Nat.le_refl _ | exact Nat.zero_le _ | decide | (dsimp only [rm]; omega)⟩ (rt1 ?_)
    refine gl_goto (tgt := 17) dX0_fits_13 (by decide) ?_
    exact gl_iret dX0_fits_17 rfl (XR.same hV) (hc := by first | exact Nat.zero_le _ | (dsimp only [rm]; omega)) (hs := by first | exact Nat.zero_le _ | (dsimp only [rm]; omega))
theorem x_right (hV : RV o τ x y n m t) : Ct yX0_right gX0_right (L + 17) 0 0 [.ref 1] (mX o x) (XR o (sp_right y m)) := by
  refine Ct.of rfl rfl rfl rfl rfl ?_
  refine gl_aload_n dX0_right_0 rfl ?_
  refine gl_aload_n dX0_right_1 rfl ?_
  refine gl_iconst (v := nI 0) dX0_right_2 (by decide) ?_
  refine gl_callV (x_rightMany L o x hV.rl hV.lb _) dX0_right_3 q759 q761 qs24 q74 q762 rfl hX0_rightMany rfl (rfl : vwCl[0]? = some (RX0, TX0, 30)) rfl rfl (rmOk (by omega) rfl) ⟨by first | exact Nat.le_refl _ | exact Nat.zero_le _ | decide | (dsimp only [rm]; omega), by first | exact Nat.le_refl _ | exact Nat.zero_le _ | decide | (dsimp only [rm]; omega)⟩ (rt1 ?_)
  refine gl_aload_n dX0_right_6 rfl ?_
  refine gl_iconst (v := nI 1) dX0_right_7 (by decide) ?_
  refine gl_callV (x_rightMany L o x hV.rl hV.lb _) dX0_right_8 q759 q761 qs24 q74 q762 rfl hX0_rightMany rfl (rfl : vwCl[0]? = some (RX0, TX0, 30)) rfl rfl (rmOk (by omega) rfl) ⟨by first | exact Nat.le_refl _ | exact Nat.zero_le _ | decide | (dsimp only [rm]; omega), by first | exact Nat.le_refl _ | exact Nat.zero_le _ | decide | (dsimp only [rm]; omega)⟩ (rt1 ?_)
  refine gl_callV (x_ask L o x _ _) dX0_right_11 q357 q359 qs3 q74 q360 rfl hX0_ask rfl (rfl : vwCl[0]? = some (RX0, TX0, 30)) rfl rfl (rmOk (by omega) rfl) ⟨by first | exact Nat.le_refl _ | exact Nat.zero_le _ | decide | (dsimp only [rm]; omega), by first | exact Nat.le_refl _ | exact Nat.zero_le _ | decide | (dsimp only [rm]; omega)⟩ (rt1 ?_)
  exact gl_iret dX0_right_14 rfl ⟨rfl, o, _, τ, n, m, t, rfl, ⟨rfl, rfl⟩, hV.ask _⟩ (hc := by first | exact Nat.zero_le _ | (dsimp only [rm]; omega)) (hs := by first | exact Nat.zero_le _ | (dsimp only [rm]; omega))
theorem x_asked (hV : RV o τ x y n m t) : Ct yX0_asked gX0_asked (L + 12) 0 0 [.ref 1] (mX o x) (XR o (y.1 7, y)) := by
  refine Ct.of rfl rfl rfl rfl rfl ?_
  refine gl_aload_n dX0_asked_0 rfl ?_
  refine gl_get (k := 2) dX0_asked_1 rfl (rfl : vwCl[0]? = some (RX0, TX0, 30)) in_X0 (by decide) q114 rfl ?_
  rw [hV.vis.1]
  exact gl_iret dX0_asked_4 rfl (XR.same hV) (hc := by first | exact Nat.zero_le _ | (dsimp only [rm]; omega)) (hs := by first | exact Nat.zero_le _ | (dsimp only [rm]; omega))
theorem x_finding (hV : RV o τ x y n m t) : Ct yX0_finding gX0_finding (L + 12) 0 0 [.ref 1] (mX o x) (XR o (y.1 10, y)) := by
  refine Ct.of rfl rfl rfl rfl rfl ?_
  refine gl_aload_n dX0_finding_0 rfl ?_
  refine gl_get (k := 0) dX0_finding_1 rfl (rfl : vwCl[0]? = some (RX0, TX0, 30)) in_X0 (by decide) q112 rfl ?_
  rw [hV.vis.2.1]
  exact gl_iret dX0_finding_4 rfl (XR.same hV) (hc := by first | exact Nat.zero_le _ | (dsimp only [rm]; omega)) (hs := by first | exact Nat.zero_le _ | (dsimp only [rm]; omega))
theorem x_upper (hV : RV o τ x y n m t) : Ct yX0_upper gX0_upper (L + 12) 0 0 [.ref 1] (mX o x) (Rt (some (.long (y.2.1 8))) (mX o x)) := by
  refine Ct.of rfl rfl rfl rfl rfl ?_
  refine gl_aload_n dX0_upper_0 rfl ?_
  refine gl_get (k := 3) dX0_upper_1 rfl (rfl : vwCl[0]? = some (RX0, TX0, 30)) in_X0 (by decide) q115 rfl ?_
  rw [hV.vis.2.2.2.1]
  exact gl_lret dX0_upper_4 rfl ⟨rfl, rfl⟩ (hc := by first | exact Nat.zero_le _ | (dsimp only [rm]; omega)) (hs := by first | exact Nat.zero_le _ | (dsimp only [rm]; omega))
theorem x_lower (hV : RV o τ x y n m t) : Ct yX0_lower gX0_lower (L + 12) 0 0 [.ref 1] (mX o x) (Rt (some (.long (y.2.1 9))) (mX o x)) := by
  refine Ct.of rfl rfl rfl rfl rfl ?_
  refine gl_aload_n dX0_lower_0 rfl ?_
  refine gl_get (k := 4) dX0_lower_1 rfl (rfl : vwCl[0]? = some (RX0, TX0, 30)) in_X0 (by decide) q116 rfl ?_
  rw [hV.vis.2.2.2.2]
  exact gl_lret dX0_lower_4 rfl ⟨rfl, rfl⟩ (hc := by first | exact Nat.zero_le _ | (dsimp only [rm]; omega)) (hs := by first | exact Nat.zero_le _ | (dsimp only [rm]; omega))
theorem x_findings (hV : RV o τ x y n m t) (f : Int32) : Ct yX0_findings gX0_findings (L + 12) 0 0 [.ref 1, .int f] (mX o x) (XR o (sp_findings y f)) := by
  refine Ct.of rfl rfl rfl rfl rfl ?_
  unfold sp_findings
  refine gl_iload_n dX0_findings_0 rfl ?_
  refine gl_iconst (v := nI 1) dX0_findings_1 (by decide) ?_
  refine gl_iconst (v := nI 5) dX0_findings_2 (by decide) ?_
  refine gl_callS (x_isIn L _ _ _ _) dX0_findings_3 q298 q299 q74 q300 rfl hX0_isIn rfl rfl (rmOk (by omega) rfl) ⟨by first | exact Nat.le_refl _ | exact Nat.zero_le _ | decide | (dsimp only [rm]; omega), by first | exact Nat.le_refl _ | exact Nat.zero_le _ | decide | (dsimp only [rm]; omega)⟩ (rt1 ?_)
  refine gl_if_eq (tgt := 18) dX0_findings_6 (by decide) (fun h6 => ?_) (fun h6 => ?_)
  · have z : inR f 1 5 = false := bI_fa h6
    rw [if_neg (by simp [z])]
    refine gl_iconst (v := (-1)) dX0_findings_18 (by decide) ?_
    exact gl_iret dX0_findings_19 rfl (XR.same hV) (hc := by first | exact Nat.zero_le _ | (dsimp only [rm]; omega)) (hs := by first | exact Nat.zero_le _ | (dsimp only [rm]; omega))
  · have hr : inR f 1 5 = true := bI_tr h6
    rw [if_pos hr]
    obtain ⟨k, -, hk, rfl⟩ := inR_nat (a := 1) (b := 5) (by omega) (by omega) hr
    rw [ix_nI (show k < 100 by omega)]
    refine gl_aload_n dX0_findings_9 rfl ?_
    refine gl_get (k := 1) dX0_findings_10 rfl (rfl : vwCl[0]? = some (RX0, TX0, 30)) in_X0 (by decide) q113 rfl ?_
    refine gl_iload_n dX0_findings_13 rfl ?_
    refine gl_iald (j := k) dX0_findings_14 rfl rfl (by omega) ?_
    rw [hV.vis.2.2.1 k (by omega)]
    refine gl_goto (tgt := 19) dX0_findings_15 (by decide) ?_
    exact gl_iret dX0_findings_19 rfl (XR.same hV) (hc := by first | exact Nat.zero_le _ | (dsimp only [rm]; omega)) (hs := by first | exact Nat.zero_le _ | (dsimp only [rm]; omega))
theorem x_truth (hV : RV o τ x y n m t) (q v : Int32) : Ct yX0_truth gX0_truth (L + 12) 0 0 [.ref 1, .int q, .int v] (mX o x) (XR o (sp_truth y q v)) := by
  refine Ct.of rfl rfl rfl rfl rfl ?_
  have h7q := hV.lb.q7
  have hX := hV.rl
  unfold sp_truth sp_put
  rw [hV.lb.q]
  have tl : ∀ q : Nat, q < m → (v = -9 ∨ ∃ k, k ≤ 9 ∧ v = nI k) → GL gX0_truth (rm (L + 12) 0 0) (XR o (y.2.2 23 (59 + q), sA y 23 (upd (y.2.2 23) (59 + q) v))) 0 0 26 [some (.ref 1), some (.int (nI q)), some (.int v), none] [] (mX o x) := by
    intro q hq hv
    refine gl_aload_n dX0_truth_26 rfl ?_
    refine gl_get (k := 11) dX0_truth_27 rfl (rfl : vwCl[0]? = some (RX0, TX0, 30)) in_X0 (by decide) q124 rfl ?_
    refine gl_iload_n dX0_truth_30 rfl ?_
    refine gl_iald (j := q) dX0_truth_31 rfl rfl (by omega) ?_
    rw [hX.truth q (by omega)]
    refine gl_istore_n dX0_truth_32 rfl rfl ?_
    refine gl_aload_n dX0_truth_33 rfl ?_
    refine gl_get (k := 11) dX0_truth_34 rfl (rfl : vwCl[0]? = some (RX0, TX0, 30)) in_X0 (by decide) q124 rfl ?_
    refine gl_iload_n dX0_truth_37 rfl ?_
    refine gl_iload_n dX0_truth_38 rfl ?_
    refine gl_iast (j := q) dX0_truth_39 rfl rfl (by omega) ?_
    refine gl_mem (μ1 := mX o (tA x 7 (upd (x.2.2.1 7) q v))) rfl ?_
    refine gl_iload_n dX0_truth_40 rfl ?_
    exact gl_iret dX0_truth_41 rfl ⟨rfl, o, tA x 7 (upd (x.2.2.1 7) q v), τ, n, m, t, rfl, ⟨rfl, rfl⟩, hV.lib hV.h33 (fun _ _ _ _ z => z) hV.lb.c7 ⟨hX.1, fun d hd => crd_w (hX.card d hd) (by have := hV.lb.c7; omega) (fun a _ _ => pk_un (by omega)), fun p hp j hj => (hX.ask p hp j hj).trans (pk_un (by omega)).symm, fun p hp => by show upd (x.2.2.1 7) q v p = upd (y.2.2 23) (59 + q) v (59 + p); simp only [upd]; by_cases e : p = q <;> simp [e, hX.truth p hp], fun p hp => (hX.by_ p hp).trans (pk_un (by omega)).symm, fun k hk => (hX.taking k hk).trans (pk_un (by omega)).symm, fun j hj p hp => (hX.ahead j hj p hp).trans (pk_un (by omega)).symm⟩ (Lb_truth hV.lb (by omega) hv) (fun i hi => pk_un (by have := hi.1; omega)) ⟨rfl, rfl, rfl⟩ ⟨rfl, rfl, rfl, rfl, rfl⟩⟩ (hc := by first | exact Nat.zero_le _ | (dsimp only [rm]; omega)) (hs := by first | exact Nat.zero_le _ | (dsimp only [rm]; omega))
  refine gl_aload_n dX0_truth_0 rfl ?_
  refine gl_iload_n dX0_truth_1 rfl ?_
  refine gl_callV (x_isQuestion L o x hV.rl _) dX0_truth_2 q592 q594 qs12 q74 q595 rfl hX0_isQuestion rfl (rfl : vwCl[0]? = some (RX0, TX0, 30)) rfl rfl (rmOk (by omega) rfl) ⟨by first | exact Nat.le_refl _ | exact Nat.zero_le _ | decide | (dsimp only [rm]; omega), by first | exact Nat.le_refl _ | exact Nat.zero_le _ | decide | (dsimp only [rm]; omega)⟩ (rt1 ?_)
  refine gl_if_eq (tgt := 24) dX0_truth_5 (by decide) (fun h5 => ?_) (fun h5 => ?_)
  · rw [if_neg (by simp [bI_fa h5])]
    refine gl_iconst (v := (-1)) dX0_truth_24 (by decide) ?_
    exact gl_iret dX0_truth_25 rfl (XR.same hV) (hc := by first | exact Nat.zero_le _ | (dsimp only [rm]; omega)) (hs := by first | exact Nat.zero_le _ | (dsimp only [rm]; omega))
  · have hc := bI_tr h5
    obtain ⟨q, hq, rfl⟩ := inR_n (by omega) hc
    rw [ix_nI (show q < 100 by omega)]
    refine gl_iload_n dX0_truth_8 rfl ?_
    refine gl_bipush (v := (-9)) dX0_truth_9 (by decide) ?_
    refine gl_icmp_eq (tgt := 26) dX0_truth_11 (by decide) (fun h11 => ?_) (fun h11 => ?_)
    · rw [if_pos (by rw [hc, h11]; decide)]
      exact tl q hq (Or.inl h11)
    · refine gl_iload_n dX0_truth_14 rfl ?_
      refine gl_iconst (v := nI 0) dX0_truth_15 (by decide) ?_
      refine gl_bipush (v := nI 9) dX0_truth_16 (by decide) ?_
      refine gl_callS (x_isIn L _ _ _ _) dX0_truth_18 q298 q299 q74 q300 rfl hX0_isIn rfl rfl (rmOk (by omega) rfl) ⟨by first | exact Nat.le_refl _ | exact Nat.zero_le _ | decide | (dsimp only [rm]; omega), by first | exact Nat.le_refl _ | exact Nat.zero_le _ | decide | (dsimp only [rm]; omega)⟩ (rt1 ?_)
      refine gl_if_ne (tgt := 26) dX0_truth_21 (by decide) (fun h21 => ?_) (fun h21 => ?_)
      · have hv : inR v (nI 0) (nI 9) = true := bI_tr h21
        rw [if_pos (by rw [hc]; have hv' : inR v 0 9 = true := hv; simp [hv'])]
        obtain ⟨k, -, hk, e⟩ := inR_nat (by omega) (by omega) hv
        exact tl q hq (Or.inr ⟨k, hk, e⟩)
      · rw [if_neg (by have z : inR v 0 9 = false := bI_fa h21; simp [z, h11])]
        refine gl_iconst (v := (-1)) dX0_truth_24 (by decide) ?_
        exact gl_iret dX0_truth_25 rfl (XR.same hV) (hc := by first | exact Nat.zero_le _ | (dsimp only [rm]; omega)) (hs := by first | exact Nat.zero_le _ | (dsimp only [rm]; omega))
theorem RL_card {w w' : Nat → Int32} {p c : Nat} {d : MC} (hX : RL o τ x w n m t) (hn : n ≤ 7) (hc : c < n) (e : x.2.2.2.1 5 c = some p) (hp : τ p = 30 + c) (hlow : ∀ a, a < 17 ∨ 31 ≤ a → w' a = w a) (hoth : ∀ j, j < n → j ≠ c → w' (17 + j) = w (17 + j) ∧ w' (24 + j) = w (24 + j)) (hd : d = .inr (.inr (2 + ix (w (3 + c)), cdO (nI c) (w (10 + c)) (w' (17 + c)) (w' (24 + c))))) : RL (oP o p d) τ x w' n m t := by
  refine ⟨hX.1, fun j hj => ?_, fun q hq j hj => (hX.ask q hq j hj).trans (hlow _ (by omega)).symm, fun q hq => (hX.truth q hq).trans (hlow _ (by omega)).symm, fun q hq => (hX.by_ q hq).trans (hlow _ (by omega)).symm, fun k hk => (hX.taking k hk).trans (hlow _ (by omega)).symm, fun j hj q hq => (hX.ahead j hj q hq).trans (hlow _ (by omega)).symm⟩
  obtain ⟨k, e1, hO⟩ := hX.card j hj
  by_cases h : j = c
  · subst h
    rw [e] at e1
    cases e1
    refine ⟨p, e, ?_⟩
    rw [hlow (3 + j) (by omega), hlow (10 + j) (by omega), ← hd]
    exact hO.puts
  · refine ⟨k, e1, ?_⟩
    rw [hlow (3 + j) (by omega), hlow (10 + j) (by omega), (hoth j hj h).1, (hoth j hj h).2]
    exact hO.put hp (by omega)
theorem x_shelve (hV : RV o τ x y n m t) (c s : Int32) : Ct yX0_shelve gX0_shelve (L + 15) 0 0 [.ref 1, .int c, .int s] (mX o x) (XR o (sp_shelve y c s)) := by
  refine Ct.of rfl rfl rfl rfl rfl ?_
  have h7 := hV.lb.c7
  have hX := hV.rl
  have hL := hV.lb
  unfold sp_shelve sp_put
  rw [hV.lb.c]
  refine gl_aload_n dX0_shelve_0 rfl ?_
  refine gl_iload_n dX0_shelve_1 rfl ?_
  refine gl_callV (x_isCard L o x hV.rl _) dX0_shelve_2 q517 q519 qs9 q74 q520 rfl hX0_isCard rfl (rfl : vwCl[0]? = some (RX0, TX0, 30)) rfl rfl (rmOk (by omega) rfl) ⟨by first | exact Nat.le_refl _ | exact Nat.zero_le _ | decide | (dsimp only [rm]; omega), by first | exact Nat.le_refl _ | exact Nat.zero_le _ | decide | (dsimp only [rm]; omega)⟩ (rt1 ?_)
  refine gl_if_eq (tgt := 17) dX0_shelve_5 (by decide) (fun h5 => ?_) (fun h5 => ?_)
  · rw [if_neg (by simp [bI_fa h5])]
    refine gl_iconst (v := (-1)) dX0_shelve_17 (by decide) ?_
    exact gl_iret dX0_shelve_18 rfl (XR.same hV) (hc := by first | exact Nat.zero_le _ | (dsimp only [rm]; omega)) (hs := by first | exact Nat.zero_le _ | (dsimp only [rm]; omega))
  · have hc := bI_tr h5
    refine gl_iload_n dX0_shelve_8 rfl ?_
    refine gl_iconst (v := nI 0) dX0_shelve_9 (by decide) ?_
    refine gl_iconst (v := nI 3) dX0_shelve_10 (by decide) ?_
    refine gl_callS (x_isIn L _ _ _ _) dX0_shelve_11 q298 q299 q74 q300 rfl hX0_isIn rfl rfl (rmOk (by omega) rfl) ⟨by first | exact Nat.le_refl _ | exact Nat.zero_le _ | decide | (dsimp only [rm]; omega), by first | exact Nat.le_refl _ | exact Nat.zero_le _ | decide | (dsimp only [rm]; omega)⟩ (rt1 ?_)
    refine gl_if_ne (tgt := 19) dX0_shelve_14 (by decide) (fun h14 => ?_) (fun h14 => ?_)
    · have hs : inR s (nI 0) (nI 3) = true := bI_tr h14
      rw [if_pos (by rw [hc]; exact hs)]
      obtain ⟨c, hc', rfl⟩ := inR_n (by omega) hc
      clear hc
      have hc := hc'
      obtain ⟨s, -, hs', rfl⟩ := inR_nat (by omega) (by omega) hs
      rw [ix_nI (show c < 100 by omega)]
      obtain ⟨p, e, hO⟩ := hX.card c hc
      refine gl_aload_n dX0_shelve_19 rfl ?_
      refine gl_get (k := 8) dX0_shelve_20 rfl (rfl : vwCl[0]? = some (RX0, TX0, 30)) in_X0 (by decide) q121 rfl ?_
      refine gl_iload_n dX0_shelve_23 rfl ?_
      refine gl_aald (j := c) dX0_shelve_24 rfl rfl (by omega) e ?_
      refine gl_shelfW hX hL hc e dX0_shelve_25 n450 ?_
      refine gl_istore_n dX0_shelve_28 rfl rfl ?_
      refine gl_aload_n dX0_shelve_29 rfl ?_
      refine gl_get (k := 8) dX0_shelve_30 rfl (rfl : vwCl[0]? = some (RX0, TX0, 30)) in_X0 (by decide) q121 rfl ?_
      refine gl_iload_n dX0_shelve_33 rfl ?_
      refine gl_aald (j := c) dX0_shelve_34 rfl rfl (by omega) e ?_
      refine gl_iload_n dX0_shelve_35 rfl ?_
      refine gl_shelfP hX hL hc e dX0_shelve_36 n450 ?_
      refine gl_iload_n dX0_shelve_39 rfl ?_
      exact gl_iret dX0_shelve_40 rfl ⟨rfl, oP o p _, x, τ, n, m, t, rfl, ⟨rfl, rfl⟩, hV.lib hV.h33 (fun _ _ _ ht z => z.put hO.2.1 (by omega)) hV.lb.c7 (RL_card hX h7 hc e hO.2.1 (fun a ha => pk_un (by omega)) (fun j hj hn => ⟨pk_un (by omega), pk_un (by omega)⟩) (by rw [pk_us, pk_un (by omega)])) (Lb_shelf hL (by omega) hs') (fun i hi => pk_un (by have := hi.1; have := hi.2.2; omega)) ⟨rfl, rfl, rfl⟩ ⟨rfl, rfl, rfl, rfl, rfl⟩⟩ (hc := by first | exact Nat.zero_le _ | (dsimp only [rm]; omega)) (hs := by first | exact Nat.zero_le _ | (dsimp only [rm]; omega))
    · rw [if_neg (by have z : inR s 0 3 = false := bI_fa h14; simp [z])]
      refine gl_iconst (v := (-1)) dX0_shelve_17 (by decide) ?_
      exact gl_iret dX0_shelve_18 rfl (XR.same hV) (hc := by first | exact Nat.zero_le _ | (dsimp only [rm]; omega)) (hs := by first | exact Nat.zero_le _ | (dsimp only [rm]; omega))
theorem x_age (hV : RV o τ x y n m t) (c s : Int32) : Ct yX0_age gX0_age (L + 15) 0 0 [.ref 1, .int c, .int s] (mX o x) (XR o (sp_age y c s)) := by
  refine Ct.of rfl rfl rfl rfl rfl ?_
  have h7 := hV.lb.c7
  have hX := hV.rl
  have hL := hV.lb
  unfold sp_age sp_put
  rw [hV.lb.c]
  refine gl_aload_n dX0_age_0 rfl ?_
  refine gl_iload_n dX0_age_1 rfl ?_
  refine gl_callV (x_isCard L o x hV.rl _) dX0_age_2 q517 q519 qs9 q74 q520 rfl hX0_isCard rfl (rfl : vwCl[0]? = some (RX0, TX0, 30)) rfl rfl (rmOk (by omega) rfl) ⟨by first | exact Nat.le_refl _ | exact Nat.zero_le _ | decide | (dsimp only [rm]; omega), by first | exact Nat.le_refl _ | exact Nat.zero_le _ | decide | (dsimp only [rm]; omega)⟩ (rt1 ?_)
  refine gl_if_eq (tgt := 18) dX0_age_5 (by decide) (fun h5 => ?_) (fun h5 => ?_)
  · rw [if_neg (by simp [bI_fa h5])]
    refine gl_iconst (v := (-1)) dX0_age_18 (by decide) ?_
    exact gl_iret dX0_age_19 rfl (XR.same hV) (hc := by first | exact Nat.zero_le _ | (dsimp only [rm]; omega)) (hs := by first | exact Nat.zero_le _ | (dsimp only [rm]; omega))
  · have hc := bI_tr h5
    refine gl_iload_n dX0_age_8 rfl ?_
    refine gl_iconst (v := nI 0) dX0_age_9 (by decide) ?_
    refine gl_bipush (v := nI 9) dX0_age_10 (by decide) ?_
    refine gl_callS (x_isIn L _ _ _ _) dX0_age_12 q298 q299 q74 q300 rfl hX0_isIn rfl rfl (rmOk (by omega) rfl) ⟨by first | exact Nat.le_refl _ | exact Nat.zero_le _ | decide | (dsimp only [rm]; omega), by first | exact Nat.le_refl _ | exact Nat.zero_le _ | decide | (dsimp only [rm]; omega)⟩ (rt1 ?_)
    refine gl_if_ne (tgt := 20) dX0_age_15 (by decide) (fun h15 => ?_) (fun h15 => ?_)
    · have hs : inR s (nI 0) (nI 9) = true := bI_tr h15
      rw [if_pos (by rw [hc]; exact hs)]
      obtain ⟨c, hc', rfl⟩ := inR_n (by omega) hc
      clear hc
      have hc := hc'
      obtain ⟨s, -, hs', rfl⟩ := inR_nat (by omega) (by omega) hs
      rw [ix_nI (show c < 100 by omega)]
      obtain ⟨p, e, hO⟩ := hX.card c hc
      refine gl_aload_n dX0_age_20 rfl ?_
      refine gl_get (k := 8) dX0_age_21 rfl (rfl : vwCl[0]? = some (RX0, TX0, 30)) in_X0 (by decide) q121 rfl ?_
      refine gl_iload_n dX0_age_24 rfl ?_
      refine gl_aald (j := c) dX0_age_25 rfl rfl (by omega) e ?_
      refine gl_ageFW hX hL hc e dX0_age_26 n452 ?_
      refine gl_istore_n dX0_age_29 rfl rfl ?_
      refine gl_aload_n dX0_age_30 rfl ?_
      refine gl_get (k := 8) dX0_age_31 rfl (rfl : vwCl[0]? = some (RX0, TX0, 30)) in_X0 (by decide) q121 rfl ?_
      refine gl_iload_n dX0_age_34 rfl ?_
      refine gl_aald (j := c) dX0_age_35 rfl rfl (by omega) e ?_
      refine gl_iload_n dX0_age_36 rfl ?_
      refine gl_ageP hX hL hc e dX0_age_37 n452 ?_
      refine gl_iload_n dX0_age_40 rfl ?_
      exact gl_iret dX0_age_41 rfl ⟨rfl, oP o p _, x, τ, n, m, t, rfl, ⟨rfl, rfl⟩, hV.lib hV.h33 (fun _ _ _ ht z => z.put hO.2.1 (by omega)) hV.lb.c7 (RL_card hX h7 hc e hO.2.1 (fun a ha => pk_un (by omega)) (fun j hj hn => ⟨pk_un (by omega), pk_un (by omega)⟩) (by rw [pk_us, pk_un (by omega)])) (Lb_age hL (by omega) hs') (fun i hi => pk_un (by have := hi.1; have := hi.2.2; omega)) ⟨rfl, rfl, rfl⟩ ⟨rfl, rfl, rfl, rfl, rfl⟩⟩ (hc := by first | exact Nat.zero_le _ | (dsimp only [rm]; omega)) (hs := by first | exact Nat.zero_le _ | (dsimp only [rm]; omega))
    · rw [if_neg (by have z : inR s 0 9 = false := bI_fa h15; simp [z])]
      refine gl_iconst (v := (-1)) dX0_age_18 (by decide) ?_
      exact gl_iret dX0_age_19 rfl (XR.same hV) (hc := by first | exact Nat.zero_le _ | (dsimp only [rm]; omega)) (hs := by first | exact Nat.zero_le _ | (dsimp only [rm]; omega))
end XQ

