/-! the component's matchings told -/
set_option maxRecDepth 100000
section XG
variable (L : Nat) {o : OX} {τ : Nat → Nat} {x : XY} {y : MY} {n m t : Nat}
theorem lf_all (w : Nat → Int32) (n m : Nat) : orI (frC w m) n = orI (lfB w m (fun _ => false)) n := orI_eq (fun c hc => by simp [lfB])
def sfP (o : OX) (x : XY) (Q : QS) : Option Value → Mem → Prop := fun v μ => v = none ∧ ∃ A B A' W bw, (∀ i, i < 49 → W i = Q.2.2.1 i) ∧ μ = mX o (fX (bX x A bw B) A' Q.2.1 W)
theorem x_setFullest (hV : RV o τ x y n m t) : Ct yX0_setFullest gX0_setFullest (L + 29) 0 0 [.ref 1] (mX o x) (sfP o x (layQ y n m false)) := by
  refine Ct.of rfl rfl rfl rfl rfl ?_
  have hX := hV.rl
  have hL := hV.lb
  have h7 := hL.c7
  have h7q := hL.q7
  obtain ⟨Mx, hM, eM, eAll, eW, -⟩ := lay_full y hL
  refine gl_aload_n dX0_setFullest_0 rfl ?_
  refine gl_iconst (v := (-1)) dX0_setFullest_1 (by decide) ?_
  refine gl_put (k := 25) dX0_setFullest_2 rfl (rfl : vwCl[0]? = some (RX0, TX0, 30)) in_X0 tyX0 tyX0_ok nmX0 (by decide) rfl q138 (fun _ _ => ⟨rfl, rfl⟩) rfl ?_
  refine gl_aload_n dX0_setFullest_5 rfl ?_
  refine gl_iconst (v := nI 0) dX0_setFullest_6 (by decide) ?_
  refine gl_aload_n dX0_setFullest_7 rfl ?_
  refine gl_mem (μ1 := mX o (bX x (x.2.2.1 14) (-1) (x.2.2.1 15))) rfl ?_
  refine gl_callV (x_freeCards L o (bX x (x.2.2.1 14) (-1) (x.2.2.1 15)) (show RL o τ (bX x (x.2.2.1 14) (-1) (x.2.2.1 15)) (y.2.2 23) n m t from hX) hL) dX0_setFullest_8 q815 q817 qs26 q74 q818 rfl hX0_freeCards rfl (rfl : vwCl[0]? = some (RX0, TX0, 30)) rfl rfl (rmOk (by omega) rfl) ⟨by first | exact Nat.le_refl _ | exact Nat.zero_le _ | decide | (dsimp only [rm]; omega), by first | exact Nat.le_refl _ | exact Nat.zero_le _ | decide | (dsimp only [rm]; omega)⟩ (rt1 ?_)
  rw [lf_all]
  refine gl_iconst (v := nI 0) dX0_setFullest_11 (by decide) ?_
  refine gl_iconst (v := nI 0) dX0_setFullest_12 (by decide) ?_
  refine gl_callV (x_bestOn L hX hL false m 0 (by omega) (fun _ => false) (fun _ => 0) (nI 0) (x.2.2.1 14) (x.2.2.1 15) (-1, x.2.2.1 15) (fun j hj => absurd hj (Nat.not_lt_zero j)) (fun _ _ => rfl)) dX0_setFullest_13 q819 q821 qs27 q74 q822 rfl hX0_bestOn rfl (rfl : vwCl[0]? = some (RX0, TX0, 30)) rfl rfl (rmOk (by omega) rfl) ⟨by first | exact Nat.le_refl _ | exact Nat.zero_le _ | decide | (dsimp only [rm]; omega), by first | exact Nat.le_refl _ | exact Nat.zero_le _ | decide | (dsimp only [rm]; omega)⟩ ?_
  rintro _ _ ⟨rfl, A, B, -, -, rfl⟩
  rw [← (lay_best y hL false (x.2.2.1 15)).1, eM]
  refine gl_aload_n dX0_setFullest_16 rfl ?_
  refine gl_iconst (v := nI 0) dX0_setFullest_17 (by decide) ?_
  refine gl_put (k := 26) dX0_setFullest_18 rfl (rfl : vwCl[0]? = some (RX0, TX0, 30)) in_X0 tyX0 tyX0_ok nmX0 (by decide) rfl q139 (fun _ _ => ⟨rfl, rfl⟩) rfl ?_
  refine gl_iconst (v := nI 0) dX0_setFullest_21 (by decide) ?_
  refine gl_istore_n dX0_setFullest_22 rfl rfl ?_
  refine gl_mem (μ1 := mX o (fX (bX x A (nI Mx) B) A (nI 0) (fillI (x.2.2.1 16) 0 (nI 0) 0))) (by rw [fill_0]; rfl) ?_
  refine gl_loop (fun k => [some (.ref 1), some (.int (nI k))]) (fun k => mX o (fX (bX x A (nI Mx) B) A (nI 0) (fillI (x.2.2.1 16) 0 (nI 0) k))) 49 ?_ ?_
  · intro k hk ih
    refine gl_iload_n dX0_setFullest_23 rfl ?_
    refine gl_bipush (v := nI 49) dX0_setFullest_24 (by decide) ?_
    refine gl_icmp_ge (tgt := 42) dX0_setFullest_26 (by decide) (fun h => absurd h (nI_ge hk (by omega))) (fun _ => ?_)
    refine gl_aload_n dX0_setFullest_29 rfl ?_
    refine gl_get (k := 27) dX0_setFullest_30 rfl (rfl : vwCl[0]? = some (RX0, TX0, 30)) in_X0 (by decide) q140 rfl ?_
    refine gl_iload_n dX0_setFullest_33 rfl ?_
    refine gl_iconst (v := nI 0) dX0_setFullest_34 (by decide) ?_
    refine gl_iast (j := k) dX0_setFullest_35 rfl rfl (by omega) ?_
    refine gl_iinc (v := (nI (k + 1))) dX0_setFullest_36 rfl (nI_1 _) rfl rfl ?_
    refine gl_goto (tgt := 23) dX0_setFullest_39 (by decide) ?_
    refine gl_mem ?_ ih
    rw [← fill_s, Nat.zero_add]
    rfl
  · refine gl_iload_n dX0_setFullest_23 rfl ?_
    refine gl_bipush (v := nI 49) dX0_setFullest_24 (by decide) ?_
    refine gl_icmp_ge (tgt := 42) dX0_setFullest_26 (by decide) (fun _ => ?_) (fun h => absurd ((by decide)) h)
    refine gl_aload_n dX0_setFullest_42 rfl ?_
    refine gl_iconst (v := nI 0) dX0_setFullest_43 (by decide) ?_
    refine gl_aload_n dX0_setFullest_44 rfl ?_
    refine gl_callV (x_freeCards L o (fX (bX x A (nI Mx) B) A (nI 0) (fillI (x.2.2.1 16) 0 (nI 0) 49)) (show RL o τ (fX (bX x A (nI Mx) B) A (nI 0) (fillI (x.2.2.1 16) 0 (nI 0) 49)) (y.2.2 23) n m t from hX) hL) dX0_setFullest_45 q815 q817 qs26 q74 q818 rfl hX0_freeCards rfl (rfl : vwCl[0]? = some (RX0, TX0, 30)) rfl rfl (rmOk (by omega) rfl) ⟨by first | exact Nat.le_refl _ | exact Nat.zero_le _ | decide | (dsimp only [rm]; omega), by first | exact Nat.le_refl _ | exact Nat.zero_le _ | decide | (dsimp only [rm]; omega)⟩ (rt1 ?_)
    rw [lf_all]
    refine gl_aload_n dX0_setFullest_48 rfl ?_
    refine gl_get (k := 25) dX0_setFullest_49 rfl (rfl : vwCl[0]? = some (RX0, TX0, 30)) in_X0 (by decide) q138 rfl ?_
    refine gl_top (w := .int (nI Mx)) rfl ?_
    refine gl_callV (x_fullOn L (show RL o τ (bX x A (nI Mx) B) (y.2.2 23) n m t from hX) hL hM m 0 (by omega) (fun _ => false) (fun _ => 0) 0 Mx A (nI 0, fillI (x.2.2.1 16) 0 (nI 0) 49) (by omega) (fun j hj => absurd hj (Nat.not_lt_zero j)) (fun j hj => absurd hj (Nat.not_lt_zero j))) dX0_setFullest_52 q842 q844 qs30 q74 q845 rfl hX0_fullOn rfl (rfl : vwCl[0]? = some (RX0, TX0, 30)) rfl rfl (rmOk (by omega) rfl) ⟨by first | exact Nat.le_refl _ | exact Nat.zero_le _ | decide | (dsimp only [rm]; omega), by first | exact Nat.le_refl _ | exact Nat.zero_le _ | decide | (dsimp only [rm]; omega)⟩ ?_
    rintro _ _ ⟨rfl, A', -, rfl⟩
    rw [wk_fo (VF (nI Mx) n m), show wk (mayB (y.2.2 23) m) (wtI (y.2.2 23) false) n appV m 0 (fun _ => false) (fun _ => 0) (nI 0) [] = lvL (y.2.2 23) n m from rfl]
    have hg : ∀ f ∈ lvL (y.2.2 23) n m, gdF n m f := lv_gd h7q m 0 (by omega) _ _ 0 [] (by omega) (fun j hj => absurd hj (Nat.not_lt_zero j)) (fun f hf => by cases hf)
    obtain ⟨c1, c2⟩ := VF_cnt (M := nI Mx) h7 (Z := fillI (x.2.2.1 16) 0 (nI 0) 49) (fun i hi => by unfold fillI; rw [if_pos (by omega)]) _ hg
    rw [eM] at eAll eW
    rw [c1, ← eAll]
    exact gl_vret dX0_setFullest_55 rfl ⟨rfl, A, B, A', _, _, fun i hi => by have e : i = 7 * (i / 7) + i % 7 := (by omega); rw [e, c2 _ _ (by omega) (by omega), eW _ _ (by omega) (by omega)], rfl⟩ (hc := by first | exact Nat.zero_le _ | (dsimp only [rm]; omega)) (hs := by first | exact Nat.zero_le _ | (dsimp only [rm]; omega))
theorem x_fullest (hV : RV o τ x y n m t) : Ct yX0_fullest gX0_fullest (L + 30) 0 0 [.ref 1] (mX o x) (XRJ o (sp_fullest y n m)) := by
  refine Ct.of rfl rfl rfl rfl rfl ?_
  unfold sp_fullest
  refine gl_aload_n dX0_fullest_0 rfl ?_
  refine gl_callV (x_setFullest L hV) dX0_fullest_1 q838 q840 qs29 q74 q841 rfl hX0_setFullest rfl (rfl : vwCl[0]? = some (RX0, TX0, 30)) rfl rfl (rmOk (by omega) rfl) ⟨by first | exact Nat.le_refl _ | exact Nat.zero_le _ | decide | (dsimp only [rm]; omega), by first | exact Nat.le_refl _ | exact Nat.zero_le _ | decide | (dsimp only [rm]; omega)⟩ ?_
  generalize layQ y n m false = Q
  rintro _ _ ⟨rfl, A, B, A', W, bw, hW, rfl⟩
  refine gl_iconst (v := nI 0) dX0_fullest_4 (by decide) ?_
  refine gl_istore_n dX0_fullest_5 rfl rfl ?_
  refine gl_iconst (v := nI 0) dX0_fullest_6 (by decide) ?_
  refine gl_istore_n dX0_fullest_7 rfl rfl ?_
  refine gl_loop (fun k => [some (.ref 1), some (.int (flN Q k)), some (.int (nI k))]) (fun _ => mX o (fX (bX x A bw B) A' Q.2.1 W)) 49 ?_ ?_
  · intro k hk ih
    refine gl_iload_n dX0_fullest_8 rfl ?_
    refine gl_bipush (v := nI 49) dX0_fullest_9 (by decide) ?_
    refine gl_icmp_ge (tgt := 41) dX0_fullest_11 (by decide) (fun h => absurd h (nI_ge hk (by omega))) (fun _ => ?_)
    refine gl_iload_n dX0_fullest_14 rfl ?_
    refine gl_aload_n dX0_fullest_15 rfl ?_
    refine gl_get (k := 27) dX0_fullest_16 rfl (rfl : vwCl[0]? = some (RX0, TX0, 30)) in_X0 (by decide) q140 rfl ?_
    refine gl_iload_n dX0_fullest_19 rfl ?_
    refine gl_iald (j := k) dX0_fullest_20 rfl rfl (by omega) ?_
    refine gl_aload_n dX0_fullest_21 rfl ?_
    refine gl_get (k := 26) dX0_fullest_22 rfl (rfl : vwCl[0]? = some (RX0, TX0, 30)) in_X0 (by decide) q139 rfl ?_
    refine gl_icmp_ne (tgt := 32) dX0_fullest_25 (by decide) (fun h25 => ?_) (fun h25 => ?_)
    · have z : ¬ Q.2.2.1 k = Q.2.1 := by rw [← hW k hk]; exact h25
      refine gl_iconst (v := nI 0) dX0_fullest_32 (by decide) ?_
      refine gl_iadd dX0_fullest_33 ?_
      refine gl_istore_n dX0_fullest_34 rfl rfl ?_
      refine gl_iinc (v := (nI (k + 1))) dX0_fullest_35 rfl (nI_1 _) rfl rfl ?_
      refine gl_goto (tgt := 8) dX0_fullest_38 (by decide) ?_
      exact gl_lcs (by simp only [flN, cntI]; simp [z, bI] <;> rfl) ih
    · have z : Q.2.2.1 k = Q.2.1 := by rw [← hW k hk]; exact h25
      refine gl_iconst (v := nI 1) dX0_fullest_28 (by decide) ?_
      refine gl_goto (tgt := 33) dX0_fullest_29 (by decide) ?_
      refine gl_iadd dX0_fullest_33 ?_
      refine gl_istore_n dX0_fullest_34 rfl rfl ?_
      refine gl_iinc (v := (nI (k + 1))) dX0_fullest_35 rfl (nI_1 _) rfl rfl ?_
      refine gl_goto (tgt := 8) dX0_fullest_38 (by decide) ?_
      exact gl_lcs (by simp only [flN, cntI]; simp [z, bI] <;> rfl) ih
  · refine gl_iload_n dX0_fullest_8 rfl ?_
    refine gl_bipush (v := nI 49) dX0_fullest_9 (by decide) ?_
    refine gl_icmp_ge (tgt := 41) dX0_fullest_11 (by decide) (fun _ => ?_) (fun h => absurd ((by decide)) h)
    refine gl_aload_n dX0_fullest_41 rfl ?_
    refine gl_iload_n dX0_fullest_42 rfl ?_
    refine gl_aload_n dX0_fullest_43 rfl ?_
    refine gl_get (k := 26) dX0_fullest_44 rfl (rfl : vwCl[0]? = some (RX0, TX0, 30)) in_X0 (by decide) q139 rfl ?_
    refine gl_callV (x_ask L o (fX (bX x A bw B) A' Q.2.1 W) _ _) dX0_fullest_47 q357 q359 qs3 q74 q360 rfl hX0_ask rfl (rfl : vwCl[0]? = some (RX0, TX0, 30)) rfl rfl (rmOk (by omega) rfl) ⟨by first | exact Nat.le_refl _ | exact Nat.zero_le _ | decide | (dsimp only [rm]; omega), by first | exact Nat.le_refl _ | exact Nat.zero_le _ | decide | (dsimp only [rm]; omega)⟩ (rt1 ?_)
    exact gl_iret dX0_fullest_50 rfl ⟨rfl, o, tI (fX (bX x A bw B) A' Q.2.1 W) 2 (flN Q 49), τ, n, m, t, rfl, ⟨rfl, rfl⟩, fun _ => RV.ask (x := fX (bX x A bw B) A' Q.2.1 W) (show RV o τ (fX (bX x A bw B) A' Q.2.1 W) (mqS y _ Q) n m t from hV) _⟩ (hc := by first | exact Nat.zero_le _ | (dsimp only [rm]; omega)) (hs := by first | exact Nat.zero_le _ | (dsimp only [rm]; omega))
theorem x_may (hV : RV o τ x y n m t) (c : Int32) : Ct yX0_may gX0_may (L + 30) 0 0 [.ref 1, .int c] (mX o x) (XRJ o (sp_may y n m c)) := by
  refine Ct.of rfl rfl rfl rfl rfl ?_
  have hX := hV.rl
  have h7 := hV.lb.c7
  have h7q := hV.lb.q7
  unfold sp_may
  rw [hV.lb.c]
  refine gl_aload_n dX0_may_0 rfl ?_
  refine gl_iload_n dX0_may_1 rfl ?_
  refine gl_callV (x_isCard L o x hV.rl _) dX0_may_2 q517 q519 qs9 q74 q520 rfl hX0_isCard rfl (rfl : vwCl[0]? = some (RX0, TX0, 30)) rfl rfl (rmOk (by omega) rfl) ⟨by first | exact Nat.le_refl _ | exact Nat.zero_le _ | decide | (dsimp only [rm]; omega), by first | exact Nat.le_refl _ | exact Nat.zero_le _ | decide | (dsimp only [rm]; omega)⟩ (rt1 ?_)
  refine gl_if_ne (tgt := 10) dX0_may_5 (by decide) (fun h5 => ?_) (fun h5 => ?_)
  · have hr := bI_tr h5
    rw [if_pos hr]
    obtain ⟨c, hc, rfl⟩ := inR_n (by omega) hr
    rw [ix_nI (show c < 100 by omega)]
    refine gl_aload_n dX0_may_10 rfl ?_
    refine gl_callV (x_setFullest L hV) dX0_may_11 q838 q840 qs29 q74 q841 rfl hX0_setFullest rfl (rfl : vwCl[0]? = some (RX0, TX0, 30)) rfl rfl (rmOk (by omega) rfl) ⟨by first | exact Nat.le_refl _ | exact Nat.zero_le _ | decide | (dsimp only [rm]; omega), by first | exact Nat.le_refl _ | exact Nat.zero_le _ | decide | (dsimp only [rm]; omega)⟩ ?_
    generalize layQ y n m false = Q
    rintro _ _ ⟨rfl, A, B, A', W, bw, hW, rfl⟩
    refine gl_iconst (v := nI 0) dX0_may_14 (by decide) ?_
    refine gl_istore_n dX0_may_15 rfl rfl ?_
    refine gl_iconst (v := nI 0) dX0_may_16 (by decide) ?_
    refine gl_istore_n dX0_may_17 rfl rfl ?_
    refine gl_loop (fun q => [some (.ref 1), some (.int (nI c)), some (.int (orI (fun q => decide (0 < Q.2.2.1 (7 * q + c))) q)), some (.int (nI q))]) (fun _ => mX o (fX (bX x A bw B) A' Q.2.1 W)) m ?_ ?_
    · intro q hq ih
      have hw := hW (7 * q + c) (by omega)
      refine gl_iload_n dX0_may_18 rfl ?_
      refine gl_aload_n dX0_may_19 rfl ?_
      refine gl_get (k := 9) dX0_may_20 rfl (rfl : vwCl[0]? = some (RX0, TX0, 30)) in_X0 (by decide) q122 rfl ?_
      refine gl_icmp_ge (tgt := 56) dX0_may_23 (by decide) (fun h => absurd h ((by show ¬ x.1 9 ≤ nI q; rw [hX.askMany]; exact nI_ge hq (by omega)))) (fun _ => ?_)
      refine gl_iload_n dX0_may_26 rfl ?_
      refine gl_aload_n dX0_may_27 rfl ?_
      refine gl_get (k := 27) dX0_may_28 rfl (rfl : vwCl[0]? = some (RX0, TX0, 30)) in_X0 (by decide) q140 rfl ?_
      refine gl_bipush (v := nI 7) dX0_may_31 (by decide) ?_
      refine gl_iload_n dX0_may_33 rfl ?_
      refine gl_imul dX0_may_34 ?_
      refine gl_iload_n dX0_may_35 rfl ?_
      refine gl_iadd dX0_may_36 ?_
      refine gl_iald (j := ((7 * q) + c)) dX0_may_37 rfl (by simp only [nI_add, nI_mul]) (by omega) ?_
      refine gl_if_le (tgt := 47) dX0_may_38 (by decide) (fun h38 => ?_) (fun h38 => ?_)
      · have z : ¬ 0 < Q.2.2.1 (7 * q + c) := by rw [← hw]; exact k2_nlt h38
        refine gl_iconst (v := nI 0) dX0_may_47 (by decide) ?_
        refine gl_ior dX0_may_48 ?_
        refine gl_istore_n dX0_may_49 rfl rfl ?_
        refine gl_iinc (v := (nI (q + 1))) dX0_may_50 rfl (nI_1 _) rfl rfl ?_
        refine gl_goto (tgt := 18) dX0_may_53 (by decide) ?_
        exact gl_lcs (by simp only [orI]; rw [if_neg (by rw [decide_eq_true_eq]; exact z)]; rfl) ih
      · have z : 0 < Q.2.2.1 (7 * q + c) := by rw [← hw]; exact k2_lt h38
        refine gl_iconst (v := nI 1) dX0_may_41 (by decide) ?_
        refine gl_iload_n dX0_may_42 rfl ?_
        refine gl_ishl dX0_may_43 ?_
        refine gl_goto (tgt := 48) dX0_may_44 (by decide) ?_
        refine gl_ior dX0_may_48 ?_
        refine gl_istore_n dX0_may_49 rfl rfl ?_
        refine gl_iinc (v := (nI (q + 1))) dX0_may_50 rfl (nI_1 _) rfl rfl ?_
        refine gl_goto (tgt := 18) dX0_may_53 (by decide) ?_
        exact gl_lcs (by simp only [orI]; rw [if_pos (by rw [decide_eq_true_eq]; exact z)]; rfl) ih
    · refine gl_iload_n dX0_may_18 rfl ?_
      refine gl_aload_n dX0_may_19 rfl ?_
      refine gl_get (k := 9) dX0_may_20 rfl (rfl : vwCl[0]? = some (RX0, TX0, 30)) in_X0 (by decide) q122 rfl ?_
      refine gl_icmp_ge (tgt := 56) dX0_may_23 (by decide) (fun _ => ?_) (fun h => absurd ((by show x.1 9 ≤ nI m; rw [hX.askMany]; exact nI_le (Nat.le_refl _) (by omega))) h)
      refine gl_iload_n dX0_may_56 rfl ?_
      exact gl_iret dX0_may_57 rfl ⟨rfl, o, fX (bX x A bw B) A' Q.2.1 W, τ, n, m, t, rfl, ⟨rfl, rfl⟩, fun _ => (show RV o τ (fX (bX x A bw B) A' Q.2.1 W) (mqS y _ Q) n m t from hV)⟩ (hc := by first | exact Nat.zero_le _ | (dsimp only [rm]; omega)) (hs := by first | exact Nat.zero_le _ | (dsimp only [rm]; omega))
  · rw [if_neg (by simp [bI_fa h5])]
    refine gl_iconst (v := (-1)) dX0_may_8 (by decide) ?_
    exact gl_iret dX0_may_9 rfl ⟨rfl, o, x, τ, n, m, t, rfl, ⟨rfl, rfl⟩, fun _ => hV⟩ (hc := by first | exact Nat.zero_le _ | (dsimp only [rm]; omega)) (hs := by first | exact Nat.zero_le _ | (dsimp only [rm]; omega))
theorem suI_no {Q : QS} {q : Nat} : ∀ n, (∀ c, c < n → ¬ Q.2.2.1 (7 * q + c) = Q.2.1) → suI Q q n = -9
  | 0, _ => rfl
  | n + 1, h => by
    unfold suI
    rw [if_neg (h n (by omega))]
    exact suI_no n (fun c hc => h c (by omega))
theorem suI_at {Q : QS} {q c : Nat} : ∀ n, c < n → Q.2.2.1 (7 * q + c) = Q.2.1 → (∀ d, d < n → Q.2.2.1 (7 * q + d) = Q.2.1 → d = c) → suI Q q n = nI c
  | 0, h, _, _ => absurd h (Nat.not_lt_zero c)
  | n + 1, h, e, hu => by
    unfold suI
    by_cases z : Q.2.2.1 (7 * q + n) = Q.2.1
    · rw [if_pos z, hu n (by omega) z]
    · rw [if_neg z]
      have : c ≠ n := fun w => z (by rw [← w]; exact e)
      exact suI_at n (by omega) e (fun d hd => hu d (by omega))
theorem su_uniq (y : MY) {n m t : Nat} (hL : Lb (y.2.2 23) n m t) {q c d : Nat} (hq : q < 7) (hc : c < 7) (hd : d < 7) (h1 : (layQ y n m false).2.2.1 (7 * q + c) = (layQ y n m false).2.1) (h2 : (layQ y n m false).2.2.1 (7 * q + d) = (layQ y n m false).2.1) : d = c := by
  obtain ⟨Mx, hM, eM, eAll, eW, hpos, hlen⟩ := lay_full y hL
  generalize layQ y n m false = Q at *
  rw [eW q c hq hc, eAll] at h1
  rw [eW q d hq hd, eAll] at h2
  have b0 := cL_le (fun f => f.2 == Q.1) (lvL (y.2.2 23) n m)
  have b1 := cL_le (inF Q.1 n m q c) (lvL (y.2.2 23) n m)
  have b2 := cL_le (inF Q.1 n m q d) (lvL (y.2.2 23) n m)
  have e1 := (nI_eq (by omega) (by omega)).mp h1
  have e2 := (nI_eq (by omega) (by omega)).mp h2
  by_cases e : d = c
  · exact e
  · exfalso
    have := cL_two (p := inF Q.1 n m q c) (p' := inF Q.1 n m q d) (q := fun f => f.2 == Q.1) (l := lvL (y.2.2 23) n m) (fun f _ => by
      unfold inF
      constructor
      · intro z
        rw [Bool.and_eq_true, Bool.and_eq_true] at z
        obtain ⟨z1, z2, z3⟩ := z
        refine ⟨z1, ?_⟩
        have z3' : f.1 q = nI c := eq_of_beq z3
        have : (f.1 q == nI d) = false := by
          rw [z3']
          cases w : nI c == nI d with
          | false => rfl
          | true => exact absurd ((nI_eq (by omega) (by omega)).mp (eq_of_beq w)).symm e
        rw [this]
        simp
      · intro z
        rw [Bool.and_eq_true] at z
        exact z.1)
    omega
theorem x_sure (hV : RV o τ x y n m t) (q : Int32) : Ct yX0_sure gX0_sure (L + 30) 0 0 [.ref 1, .int q] (mX o x) (XRJ o (sp_sure y n m q)) := by
  refine Ct.of rfl rfl rfl rfl rfl ?_
  have hX := hV.rl
  have h7 := hV.lb.c7
  have h7q := hV.lb.q7
  unfold sp_sure
  rw [hV.lb.q]
  refine gl_aload_n dX0_sure_0 rfl ?_
  refine gl_iload_n dX0_sure_1 rfl ?_
  refine gl_callV (x_isQuestion L o x hV.rl _) dX0_sure_2 q592 q594 qs12 q74 q595 rfl hX0_isQuestion rfl (rfl : vwCl[0]? = some (RX0, TX0, 30)) rfl rfl (rmOk (by omega) rfl) ⟨by first | exact Nat.le_refl _ | exact Nat.zero_le _ | decide | (dsimp only [rm]; omega), by first | exact Nat.le_refl _ | exact Nat.zero_le _ | decide | (dsimp only [rm]; omega)⟩ (rt1 ?_)
  refine gl_if_ne (tgt := 10) dX0_sure_5 (by decide) (fun h5 => ?_) (fun h5 => ?_)
  · have hr := bI_tr h5
    rw [if_pos hr]
    obtain ⟨q, hq, rfl⟩ := inR_n (by omega) hr
    rw [ix_nI (show q < 100 by omega)]
    have hu := fun c d (hc : c < 7) (hd : d < 7) => su_uniq y hV.lb (q := q) (c := c) (d := d) (by omega) hc hd
    refine gl_aload_n dX0_sure_10 rfl ?_
    refine gl_callV (x_setFullest L hV) dX0_sure_11 q838 q840 qs29 q74 q841 rfl hX0_setFullest rfl (rfl : vwCl[0]? = some (RX0, TX0, 30)) rfl rfl (rmOk (by omega) rfl) ⟨by first | exact Nat.le_refl _ | exact Nat.zero_le _ | decide | (dsimp only [rm]; omega), by first | exact Nat.le_refl _ | exact Nat.zero_le _ | decide | (dsimp only [rm]; omega)⟩ ?_
    generalize layQ y n m false = Q at hu ⊢
    rintro _ _ ⟨rfl, A, B, A', W, bw, hW, rfl⟩
    refine gl_iconst (v := nI 0) dX0_sure_14 (by decide) ?_
    refine gl_istore_n dX0_sure_15 rfl rfl ?_
    refine dn (Q := fun c => (∀ d, d < c → ¬ Q.2.2.1 (7 * q + d) = Q.2.1) → GL gX0_sure (rm (L + 30) 0 0) (XRJ o (suI Q q n, fun A => mqS y A Q)) 0 0 16 [some (.ref 1), some (.int (nI q)), some (.int (nI c))] [] (mX o (fX (bX x A bw B) A' Q.2.1 W))) n ?_ ?_ (fun j h => absurd h (Nat.not_lt_zero j))
    · intro c hc ih hno
      have hw := hW (7 * q + c) (by omega)
      refine gl_iload_n dX0_sure_16 rfl ?_
      refine gl_aload_n dX0_sure_17 rfl ?_
      refine gl_get (k := 7) dX0_sure_18 rfl (rfl : vwCl[0]? = some (RX0, TX0, 30)) in_X0 (by decide) q119 rfl ?_
      refine gl_icmp_ge (tgt := 50) dX0_sure_21 (by decide) (fun h => absurd h ((by show ¬ x.1 7 ≤ nI c; rw [hX.many]; exact nI_ge hc (by omega)))) (fun _ => ?_)
      refine gl_aload_n dX0_sure_24 rfl ?_
      refine gl_get (k := 27) dX0_sure_25 rfl (rfl : vwCl[0]? = some (RX0, TX0, 30)) in_X0 (by decide) q140 rfl ?_
      refine gl_bipush (v := nI 7) dX0_sure_28 (by decide) ?_
      refine gl_iload_n dX0_sure_30 rfl ?_
      refine gl_imul dX0_sure_31 ?_
      refine gl_iload_n dX0_sure_32 rfl ?_
      refine gl_iadd dX0_sure_33 ?_
      refine gl_iald (j := ((7 * q) + c)) dX0_sure_34 rfl (by simp only [nI_add, nI_mul]) (by omega) ?_
      refine gl_aload_n dX0_sure_35 rfl ?_
      refine gl_get (k := 26) dX0_sure_36 rfl (rfl : vwCl[0]? = some (RX0, TX0, 30)) in_X0 (by decide) q139 rfl ?_
      refine gl_icmp_ne (tgt := 44) dX0_sure_39 (by decide) (fun h39 => ?_) (fun h39 => ?_)
      · have z : ¬ Q.2.2.1 (7 * q + c) = Q.2.1 := by rw [← hw]; exact h39
        refine gl_iinc (v := (nI (c + 1))) dX0_sure_44 rfl (nI_1 _) rfl rfl ?_
        refine gl_goto (tgt := 16) dX0_sure_47 (by decide) ?_
        refine ih (fun d hd => ?_)
        rcases Nat.lt_or_ge d c with e | e
        · exact hno d e
        · rw [show d = c by omega]; exact z
      · have z : Q.2.2.1 (7 * q + c) = Q.2.1 := by rw [← hw]; exact h39
        rw [suI_at n hc z (fun d hd e => hu c d (by omega) (by omega) z e)]
        refine gl_iload_n dX0_sure_42 rfl ?_
        exact gl_iret dX0_sure_43 rfl ⟨rfl, o, fX (bX x A bw B) A' Q.2.1 W, τ, n, m, t, rfl, ⟨rfl, rfl⟩, fun _ => (show RV o τ (fX (bX x A bw B) A' Q.2.1 W) (mqS y _ Q) n m t from hV)⟩ (hc := by first | exact Nat.zero_le _ | (dsimp only [rm]; omega)) (hs := by first | exact Nat.zero_le _ | (dsimp only [rm]; omega))
    · intro hno
      rw [suI_no n hno]
      refine gl_iload_n dX0_sure_16 rfl ?_
      refine gl_aload_n dX0_sure_17 rfl ?_
      refine gl_get (k := 7) dX0_sure_18 rfl (rfl : vwCl[0]? = some (RX0, TX0, 30)) in_X0 (by decide) q119 rfl ?_
      refine gl_icmp_ge (tgt := 50) dX0_sure_21 (by decide) (fun _ => ?_) (fun h => absurd ((by show x.1 7 ≤ nI n; rw [hX.many]; exact nI_le (Nat.le_refl _) (by omega))) h)
      refine gl_bipush (v := (-9)) dX0_sure_50 (by decide) ?_
      exact gl_iret dX0_sure_52 rfl ⟨rfl, o, fX (bX x A bw B) A' Q.2.1 W, τ, n, m, t, rfl, ⟨rfl, rfl⟩, fun _ => (show RV o τ (fX (bX x A bw B) A' Q.2.1 W) (mqS y _ Q) n m t from hV)⟩ (hc := by first | exact Nat.zero_le _ | (dsimp only [rm]; omega)) (hs := by first | exact Nat.zero_le _ | (dsimp only [rm]; omega))
  · rw [if_neg (by simp [bI_fa h5])]
    refine gl_iconst (v := (-1)) dX0_sure_8 (by decide) ?_
    exact gl_iret dX0_sure_9 rfl ⟨rfl, o, x, τ, n, m, t, rfl, ⟨rfl, rfl⟩, fun _ => hV⟩ (hc := by first | exact Nat.zero_le _ | (dsimp only [rm]; omega)) (hs := by first | exact Nat.zero_le _ | (dsimp only [rm]; omega))
theorem lay_ne (y : MY) {n m t : Nat} (hL : Lb (y.2.2 23) n m t) : ¬ (layQ y n m false).2.1 = 0 := by
  obtain ⟨Mx, hM, eM, eAll, eW, hpos, hlen⟩ := lay_full y hL
  rw [eAll]
  exact nI_ne0 hpos (by have := cL_le (fun f => f.2 == (layQ y n m false).1) (lvL (y.2.2 23) n m); omega)
theorem x_odds (hV : RV o τ x y n m t) (q c : Int32) : Ct yX0_odds gX0_odds (L + 30) 0 0 [.ref 1, .int q, .int c] (mX o x) (XRJ o (sp_odds y n m q c)) := by
  refine Ct.of rfl rfl rfl rfl rfl ?_
  have h7 := hV.lb.c7
  have h7q := hV.lb.q7
  unfold sp_odds
  rw [hV.lb.q, hV.lb.c]
  refine gl_aload_n dX0_odds_0 rfl ?_
  refine gl_iload_n dX0_odds_1 rfl ?_
  refine gl_callV (x_isQuestion L o x hV.rl _) dX0_odds_2 q592 q594 qs12 q74 q595 rfl hX0_isQuestion rfl (rfl : vwCl[0]? = some (RX0, TX0, 30)) rfl rfl (rmOk (by omega) rfl) ⟨by first | exact Nat.le_refl _ | exact Nat.zero_le _ | decide | (dsimp only [rm]; omega), by first | exact Nat.le_refl _ | exact Nat.zero_le _ | decide | (dsimp only [rm]; omega)⟩ (rt1 ?_)
  refine gl_if_eq (tgt := 16) dX0_odds_5 (by decide) (fun h5 => ?_) (fun h5 => ?_)
  · rw [if_neg (by simp [bI_fa h5])]
    refine gl_iconst (v := (-1)) dX0_odds_16 (by decide) ?_
    exact gl_iret dX0_odds_17 rfl ⟨rfl, o, x, τ, n, m, t, rfl, ⟨rfl, rfl⟩, fun _ => hV⟩ (hc := by first | exact Nat.zero_le _ | (dsimp only [rm]; omega)) (hs := by first | exact Nat.zero_le _ | (dsimp only [rm]; omega))
  · have hq := bI_tr h5
    refine gl_aload_n dX0_odds_8 rfl ?_
    refine gl_iload_n dX0_odds_9 rfl ?_
    refine gl_callV (x_isCard L o x hV.rl _) dX0_odds_10 q517 q519 qs9 q74 q520 rfl hX0_isCard rfl (rfl : vwCl[0]? = some (RX0, TX0, 30)) rfl rfl (rmOk (by omega) rfl) ⟨by first | exact Nat.le_refl _ | exact Nat.zero_le _ | decide | (dsimp only [rm]; omega), by first | exact Nat.le_refl _ | exact Nat.zero_le _ | decide | (dsimp only [rm]; omega)⟩ (rt1 ?_)
    refine gl_if_ne (tgt := 18) dX0_odds_13 (by decide) (fun h13 => ?_) (fun h13 => ?_)
    · have hc := bI_tr h13
      rw [if_pos (by rw [hq, hc]; rfl)]
      obtain ⟨q, hq', rfl⟩ := inR_n (by omega) hq
      obtain ⟨c, hc', rfl⟩ := inR_n (by omega) hc
      rw [ix_nI (show q < 100 by omega), ix_nI (show c < 100 by omega)]
      have hne := lay_ne y hV.lb
      refine gl_aload_n dX0_odds_18 rfl ?_
      refine gl_callV (x_setFullest L hV) dX0_odds_19 q838 q840 qs29 q74 q841 rfl hX0_setFullest rfl (rfl : vwCl[0]? = some (RX0, TX0, 30)) rfl rfl (rmOk (by omega) rfl) ⟨by first | exact Nat.le_refl _ | exact Nat.zero_le _ | decide | (dsimp only [rm]; omega), by first | exact Nat.le_refl _ | exact Nat.zero_le _ | decide | (dsimp only [rm]; omega)⟩ ?_
      generalize layQ y n m false = Q at hne ⊢
      rintro _ _ ⟨rfl, A, B, A', W, bw, hW, rfl⟩
      refine gl_aload_n dX0_odds_22 rfl ?_
      refine gl_aload_n dX0_odds_23 rfl ?_
      refine gl_get (k := 27) dX0_odds_24 rfl (rfl : vwCl[0]? = some (RX0, TX0, 30)) in_X0 (by decide) q140 rfl ?_
      refine gl_bipush (v := nI 7) dX0_odds_27 (by decide) ?_
      refine gl_iload_n dX0_odds_29 rfl ?_
      refine gl_imul dX0_odds_30 ?_
      refine gl_iload_n dX0_odds_31 rfl ?_
      refine gl_iadd dX0_odds_32 ?_
      refine gl_iald (j := ((7 * q) + c)) dX0_odds_33 rfl (by simp only [nI_add, nI_mul]) (by omega) ?_
      refine gl_top (w := .int (Q.2.2.1 (7 * q + c))) (congrArg Value.int (hW _ (by omega))) ?_
      refine gl_aload_n dX0_odds_34 rfl ?_
      refine gl_get (k := 26) dX0_odds_35 rfl (rfl : vwCl[0]? = some (RX0, TX0, 30)) in_X0 (by decide) q139 rfl ?_
      refine gl_callV (x_chances L o (fX (bX x A bw B) A' Q.2.1 W) (Q.2.2.1 (7 * q + c)) Q.2.1 hne) dX0_odds_38 q866 q868 qs31 q74 q869 rfl hX0_chances rfl (rfl : vwCl[0]? = some (RX0, TX0, 30)) rfl rfl (rmOk (by omega) rfl) ⟨by first | exact Nat.le_refl _ | exact Nat.zero_le _ | decide | (dsimp only [rm]; omega), by first | exact Nat.le_refl _ | exact Nat.zero_le _ | decide | (dsimp only [rm]; omega)⟩ (rt1 ?_)
      exact gl_iret dX0_odds_41 rfl ⟨rfl, o, _, τ, n, m, t, rfl, ⟨rfl, rfl⟩, fun _ => ⟨hV.h33, hV.rl, hV.lb, hV.row, hV.text, hV.kept, hV.vis.1, hV.vis.2.1, hV.vis.2.2.1, rfl, rfl⟩⟩ (hc := by first | exact Nat.zero_le _ | (dsimp only [rm]; omega)) (hs := by first | exact Nat.zero_le _ | (dsimp only [rm]; omega))
    · rw [if_neg (by simp [bI_fa h13])]
      refine gl_iconst (v := (-1)) dX0_odds_16 (by decide) ?_
      exact gl_iret dX0_odds_17 rfl ⟨rfl, o, x, τ, n, m, t, rfl, ⟨rfl, rfl⟩, fun _ => hV⟩ (hc := by first | exact Nat.zero_le _ | (dsimp only [rm]; omega)) (hs := by first | exact Nat.zero_le _ | (dsimp only [rm]; omega))
end XG

