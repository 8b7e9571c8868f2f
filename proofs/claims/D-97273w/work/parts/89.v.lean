/-! cards: what they tell of the library (likes, besides, asks, goneBy, before) -/
set_option maxRecDepth 100000
section CQ
variable (L : Nat) {o : OX} {x : XY} {τ : Nat → Nat} {w : Nat → Int32} {n m t c k : Nat}
theorem c_likes (hX : RL o τ x w n m t) (hL : Lb w n m t) (hc : c < n) (e : x.2.2.2.1 5 c = some k) (hk : w (3 + c) = 1 ∨ w (3 + c) = 3) : Ct yX3_likes gX3_likes (L + 17) 0 0 [.ref k, .ref 1] (mX o x) (Rt (some (.int (cntI (fun i => isOf (w (3 + i)) (nI 1) && mns w i == mns w c) n))) (mX o x)) := by
  refine Ct.of rfl rfl rfl rfl rfl ?_
  obtain ⟨kd, hkd, e3, e4, -, -, hl⟩ := hX.cell hL hc e
  have hm : mnk (nI kd) (w (10 + c)) (w (24 + c)) = mns w c := by unfold mns; rw [e3]
  rw [e3] at hk
  match kd, hkd, hl, hm, hk with
  | 0, _, _, _, hk => exact absurd hk (by decide)
  | 2, _, _, _, hk => exact absurd hk (by decide)
  | 4, _, _, _, hk => exact absurd hk (by decide)
  | 5, _, _, _, hk => exact absurd hk (by decide)
  | 1, _, hl, hm, _ =>
    refine gl_aload_n dX3_likes_0 rfl ?_
    refine gl_iconst (v := nI 1) dX3_likes_1 (by decide) ?_
    refine gl_aload_n dX3_likes_2 rfl ?_
    refine gl_callU (c_mean1 0 (mX o x) k _ _ _ _ hl) dX3_likes_3 q628 q1434 q580 q581 q1436 q580 q87 q581 rfl ⟨by decide, by decide, hX3_means.2.2⟩ hl (rfl : vwCl[3]? = some (RX3, TX3, 4)) rfl rfl (rmOk (by omega) rfl) ⟨by first | exact Nat.le_refl _ | exact Nat.zero_le _ | decide | (dsimp only [rm]; omega), by first | exact Nat.le_refl _ | exact Nat.zero_le _ | decide | (dsimp only [rm]; omega)⟩ (rt1 ?_)
    refine gl_top (w := .int (mns w c)) (congrArg Value.int hm) ?_
    refine gl_callVN (x_meaning L o x hX hL (nI 1) (mns w c)) dX3_likes_6 n629 q631 qs15 q74 q632 rfl hX0_meaning rfl (rfl : vwCl[0]? = some (RX0, TX0, 30)) rfl rfl (rmOk (by omega) rfl) ⟨by first | exact Nat.le_refl _ | exact Nat.zero_le _ | decide | (dsimp only [rm]; omega), by first | exact Nat.le_refl _ | exact Nat.zero_le _ | decide | (dsimp only [rm]; omega)⟩ (rt1 ?_)
    exact gl_iret dX3_likes_9 rfl ⟨rfl, rfl⟩ (hc := by first | exact Nat.zero_le _ | (dsimp only [rm]; omega)) (hs := by first | exact Nat.zero_le _ | (dsimp only [rm]; omega))
  | 3, _, hl, hm, _ =>
    refine gl_aload_n dX3_likes_0 rfl ?_
    refine gl_iconst (v := nI 1) dX3_likes_1 (by decide) ?_
    refine gl_aload_n dX3_likes_2 rfl ?_
    refine gl_callU (c_mean3 0 (mX o x) k (w (10 + c)) (w (24 + c))) dX3_likes_3 q628 q1434 q580 q581 q1435 q566 q89 q567 rfl ⟨by decide, by decide, hX3_means.2.2⟩ hl (rfl : vwCl[5]? = some (RX5, TX5, 4)) rfl rfl (rmOk (by omega) rfl) ⟨by first | exact Nat.le_refl _ | exact Nat.zero_le _ | decide | (dsimp only [rm]; omega), by first | exact Nat.le_refl _ | exact Nat.zero_le _ | decide | (dsimp only [rm]; omega)⟩ (rt1 ?_)
    refine gl_top (w := .int (mns w c)) (congrArg Value.int hm) ?_
    refine gl_callVN (x_meaning L o x hX hL (nI 1) (mns w c)) dX3_likes_6 n629 q631 qs15 q74 q632 rfl hX0_meaning rfl (rfl : vwCl[0]? = some (RX0, TX0, 30)) rfl rfl (rmOk (by omega) rfl) ⟨by first | exact Nat.le_refl _ | exact Nat.zero_le _ | decide | (dsimp only [rm]; omega), by first | exact Nat.le_refl _ | exact Nat.zero_le _ | decide | (dsimp only [rm]; omega)⟩ (rt1 ?_)
    exact gl_iret dX3_likes_9 rfl ⟨rfl, rfl⟩ (hc := by first | exact Nat.zero_le _ | (dsimp only [rm]; omega)) (hs := by first | exact Nat.zero_le _ | (dsimp only [rm]; omega))
theorem c_besides (hX : RL o τ x w n m t) (hL : Lb w n m t) (hc : c < n) (e : x.2.2.2.1 5 c = some k) (hk : w (3 + c) = 2 ∨ w (3 + c) = 5) : Ct yX4_besides gX4_besides (L + 17) 0 0 [.ref k, .ref 1] (mX o x) (Rt (some (.int (cntI (fun i => w (17 + i) == w (17 + c)) n - nI 1))) (mX o x)) := by
  refine Ct.of rfl rfl rfl rfl rfl ?_
  have h7 := hL.c7
  obtain ⟨kd, hkd, e3, e4, -, -, hl⟩ := hX.cell hL hc e
  have hm : mnk (nI kd) (w (10 + c)) (w (24 + c)) = mns w c := by unfold mns; rw [e3]
  rw [e3] at hk
  match kd, hkd, hl, hm, hk with
  | 0, _, _, _, hk => exact absurd hk (by decide)
  | 1, _, _, _, hk => exact absurd hk (by decide)
  | 3, _, _, _, hk => exact absurd hk (by decide)
  | 4, _, _, _, hk => exact absurd hk (by decide)
  | 2, _, hl, hm, _ =>
    refine gl_aload_n dX4_besides_0 rfl ?_
    refine gl_aload_n dX4_besides_1 rfl ?_
    refine gl_getN (k := 8) dX4_besides_2 rfl (rfl : vwCl[0]? = some (RX0, TX0, 30)) in_X0 (by decide) n120 rfl ?_
    refine gl_aload_n dX4_besides_5 rfl ?_
    refine gl_callU (c_number 0 (mX o x) k 2 (by omega) _ _ _ _ hl) dX4_besides_6 q664 q665 q669 q670 q668 q669 q86 q670 rfl ⟨by decide, by decide, hX2_number.2.2⟩ hl (rfl : vwCl[4]? = some (RX4, TX4, 4)) rfl rfl (rmOk (by omega) rfl) ⟨by first | exact Nat.le_refl _ | exact Nat.zero_le _ | decide | (dsimp only [rm]; omega), by first | exact Nat.le_refl _ | exact Nat.zero_le _ | decide | (dsimp only [rm]; omega)⟩ (rt1 ?_)
    refine gl_aald (j := c) dX4_besides_9 rfl rfl (by omega) e ?_
    refine gl_shelfW hX hL hc e dX4_besides_10 n449 ?_
    refine gl_callVN (x_onShelf L o x hX hL (w (17 + c))) dX4_besides_13 n671 q673 qs16 q74 q674 rfl hX0_onShelf rfl (rfl : vwCl[0]? = some (RX0, TX0, 30)) rfl rfl (rmOk (by omega) rfl) ⟨by first | exact Nat.le_refl _ | exact Nat.zero_le _ | decide | (dsimp only [rm]; omega), by first | exact Nat.le_refl _ | exact Nat.zero_le _ | decide | (dsimp only [rm]; omega)⟩ (rt1 ?_)
    refine gl_iconst (v := nI 1) dX4_besides_16 (by decide) ?_
    refine gl_isub dX4_besides_17 ?_
    exact gl_iret dX4_besides_18 rfl ⟨rfl, rfl⟩ (hc := by first | exact Nat.zero_le _ | (dsimp only [rm]; omega)) (hs := by first | exact Nat.zero_le _ | (dsimp only [rm]; omega))
  | 5, _, hl, hm, _ =>
    refine gl_aload_n dX4_besides_0 rfl ?_
    refine gl_aload_n dX4_besides_1 rfl ?_
    refine gl_getN (k := 8) dX4_besides_2 rfl (rfl : vwCl[0]? = some (RX0, TX0, 30)) in_X0 (by decide) n120 rfl ?_
    refine gl_aload_n dX4_besides_5 rfl ?_
    refine gl_callU (c_number 0 (mX o x) k 5 (by omega) _ _ _ _ hl) dX4_besides_6 q664 q665 q669 q670 q667 q669 q86 q670 rfl ⟨by decide, by decide, hX2_number.2.2⟩ hl (rfl : vwCl[7]? = some (RX7, TX7, 4)) rfl rfl (rmOk (by omega) rfl) ⟨by first | exact Nat.le_refl _ | exact Nat.zero_le _ | decide | (dsimp only [rm]; omega), by first | exact Nat.le_refl _ | exact Nat.zero_le _ | decide | (dsimp only [rm]; omega)⟩ (rt1 ?_)
    refine gl_aald (j := c) dX4_besides_9 rfl rfl (by omega) e ?_
    refine gl_shelfW hX hL hc e dX4_besides_10 n449 ?_
    refine gl_callVN (x_onShelf L o x hX hL (w (17 + c))) dX4_besides_13 n671 q673 qs16 q74 q674 rfl hX0_onShelf rfl (rfl : vwCl[0]? = some (RX0, TX0, 30)) rfl rfl (rmOk (by omega) rfl) ⟨by first | exact Nat.le_refl _ | exact Nat.zero_le _ | decide | (dsimp only [rm]; omega), by first | exact Nat.le_refl _ | exact Nat.zero_le _ | decide | (dsimp only [rm]; omega)⟩ (rt1 ?_)
    refine gl_iconst (v := nI 1) dX4_besides_16 (by decide) ?_
    refine gl_isub dX4_besides_17 ?_
    exact gl_iret dX4_besides_18 rfl ⟨rfl, rfl⟩ (hc := by first | exact Nat.zero_le _ | (dsimp only [rm]; omega)) (hs := by first | exact Nat.zero_le _ | (dsimp only [rm]; omega))
theorem c_asks (hX : RL o τ x w n m t) (hL : Lb w n m t) (hc : c < n) (e : x.2.2.2.1 5 c = some k) (hk : w (3 + c) = 3) : Ct yX5_asks gX5_asks (L + 18) 0 0 [.ref k, .ref 1] (mX o x) (Rt (some (.int (ftN w c m))) (mX o x)) := by
  refine Ct.of rfl rfl rfl rfl rfl ?_
  obtain ⟨kd, hkd, e3, e4, -, -, hl⟩ := hX.cell hL hc e
  have hm : mnk (nI kd) (w (10 + c)) (w (24 + c)) = mns w c := by unfold mns; rw [e3]
  rw [e3] at hk
  match kd, hkd, hl, hm, hk with
  | 0, _, _, _, hk => exact absurd hk (by decide)
  | 1, _, _, _, hk => exact absurd hk (by decide)
  | 2, _, _, _, hk => exact absurd hk (by decide)
  | 4, _, _, _, hk => exact absurd hk (by decide)
  | 5, _, _, _, hk => exact absurd hk (by decide)
  | 3, _, hl, hm, _ =>
    refine gl_aload_n dX5_asks_0 rfl ?_
    refine gl_aload_n dX5_asks_1 rfl ?_
    refine gl_callU (c_number 0 (mX o x) k 3 (by omega) _ _ _ _ hl) dX5_asks_2 q679 q680 q669 q670 q681 q669 q86 q670 rfl ⟨by decide, by decide, hX2_number.2.2⟩ hl (rfl : vwCl[5]? = some (RX5, TX5, 4)) rfl rfl (rmOk (by omega) rfl) ⟨by first | exact Nat.le_refl _ | exact Nat.zero_le _ | decide | (dsimp only [rm]; omega), by first | exact Nat.le_refl _ | exact Nat.zero_le _ | decide | (dsimp only [rm]; omega)⟩ (rt1 ?_)
    refine gl_callVN (x_fitted L o x hX hL c hc) dX5_asks_5 n682 q684 qs17 q74 q685 rfl hX0_fitted rfl (rfl : vwCl[0]? = some (RX0, TX0, 30)) rfl rfl (rmOk (by omega) rfl) ⟨by first | exact Nat.le_refl _ | exact Nat.zero_le _ | decide | (dsimp only [rm]; omega), by first | exact Nat.le_refl _ | exact Nat.zero_le _ | decide | (dsimp only [rm]; omega)⟩ (rt1 ?_)
    exact gl_iret dX5_asks_8 rfl ⟨rfl, rfl⟩ (hc := by first | exact Nat.zero_le _ | (dsimp only [rm]; omega)) (hs := by first | exact Nat.zero_le _ | (dsimp only [rm]; omega))
theorem c_goneBy (hX : RL o τ x w n m t) (hL : Lb w n m t) (hc : c < n) (e : x.2.2.2.1 5 c = some k) (hk : w (3 + c) = 4) : Ct yX6_goneBy gX6_goneBy (L + 12) 0 0 [.ref k] (mX o x) (Rt (some (.int (mns w c - w (10 + c) + nI 10))) (mX o x)) := by
  refine Ct.of rfl rfl rfl rfl rfl ?_
  obtain ⟨kd, hkd, e3, e4, -, -, hl⟩ := hX.cell hL hc e
  have hm : mnk (nI kd) (w (10 + c)) (w (24 + c)) = mns w c := by unfold mns; rw [e3]
  rw [e3] at hk
  match kd, hkd, hl, hm, hk with
  | 0, _, _, _, hk => exact absurd hk (by decide)
  | 1, _, _, _, hk => exact absurd hk (by decide)
  | 2, _, _, _, hk => exact absurd hk (by decide)
  | 3, _, _, _, hk => exact absurd hk (by decide)
  | 5, _, _, _, hk => exact absurd hk (by decide)
  | 4, _, hl, hm, _ =>
    refine gl_aload_n dX6_goneBy_0 rfl ?_
    refine gl_callV (c_mean4 L (mX o x) k _ _ _ _ hl) dX6_goneBy_1 q697 q570 q1439 q90 q571 rfl hX6_means hl (rfl : vwCl[6]? = some (RX6, TX6, 4)) rfl rfl (rmOk (by omega) rfl) ⟨by first | exact Nat.le_refl _ | exact Nat.zero_le _ | decide | (dsimp only [rm]; omega), by first | exact Nat.le_refl _ | exact Nat.zero_le _ | decide | (dsimp only [rm]; omega)⟩ (rt1 ?_)
    refine gl_top (w := .int (mns w c)) (congrArg Value.int hm) ?_
    refine gl_aload_n dX6_goneBy_4 rfl ?_
    refine gl_callU (c_says L (mX o x) k 4 (by omega) _ _ _ _ hl) dX6_goneBy_5 q698 q699 q546 q554 q701 q546 q86 q554 rfl ⟨by decide, by decide, hX2_says.2.2⟩ hl (rfl : vwCl[6]? = some (RX6, TX6, 4)) rfl rfl (rmOk (by omega) rfl) ⟨by first | exact Nat.le_refl _ | exact Nat.zero_le _ | decide | (dsimp only [rm]; omega), by first | exact Nat.le_refl _ | exact Nat.zero_le _ | decide | (dsimp only [rm]; omega)⟩ (rt1 ?_)
    refine gl_isub dX6_goneBy_8 ?_
    refine gl_bipush (v := nI 10) dX6_goneBy_9 (by decide) ?_
    refine gl_iadd dX6_goneBy_11 ?_
    exact gl_iret dX6_goneBy_12 rfl ⟨rfl, rfl⟩ (hc := by first | exact Nat.zero_le _ | (dsimp only [rm]; omega)) (hs := by first | exact Nat.zero_le _ | (dsimp only [rm]; omega))
theorem c_before (hX : RL o τ x w n m t) (hL : Lb w n m t) (hc : c < n) (e : x.2.2.2.1 5 c = some k) (hk : w (3 + c) = 5) : Ct yX7_before gX7_before (L + 17) 0 0 [.ref k, .ref 1] (mX o x) (Rt (some (.int (cntI (fun i => isOf (w (3 + i)) (nI 2) && w (10 + i) == mns w c) n))) (mX o x)) := by
  refine Ct.of rfl rfl rfl rfl rfl ?_
  obtain ⟨kd, hkd, e3, e4, -, -, hl⟩ := hX.cell hL hc e
  have hm : mnk (nI kd) (w (10 + c)) (w (24 + c)) = mns w c := by unfold mns; rw [e3]
  rw [e3] at hk
  match kd, hkd, hl, hm, hk with
  | 0, _, _, _, hk => exact absurd hk (by decide)
  | 1, _, _, _, hk => exact absurd hk (by decide)
  | 2, _, _, _, hk => exact absurd hk (by decide)
  | 3, _, _, _, hk => exact absurd hk (by decide)
  | 4, _, _, _, hk => exact absurd hk (by decide)
  | 5, _, hl, hm, _ =>
    refine gl_aload_n dX7_before_0 rfl ?_
    refine gl_iconst (v := nI 2) dX7_before_1 (by decide) ?_
    refine gl_aload_n dX7_before_2 rfl ?_
    refine gl_callV (c_mean5 0 (mX o x) k _ _ _ _ hl) dX7_before_3 q706 q560 q1440 q91 q561 rfl hX7_means hl (rfl : vwCl[7]? = some (RX7, TX7, 4)) rfl rfl (rmOk (by omega) rfl) ⟨by first | exact Nat.le_refl _ | exact Nat.zero_le _ | decide | (dsimp only [rm]; omega), by first | exact Nat.le_refl _ | exact Nat.zero_le _ | decide | (dsimp only [rm]; omega)⟩ (rt1 ?_)
    refine gl_top (w := .int (mns w c)) (congrArg Value.int hm) ?_
    refine gl_callVN (x_saying L o x hX hL (nI 2) (mns w c)) dX7_before_6 n707 q709 qs19 q74 q710 rfl hX0_saying rfl (rfl : vwCl[0]? = some (RX0, TX0, 30)) rfl rfl (rmOk (by omega) rfl) ⟨by first | exact Nat.le_refl _ | exact Nat.zero_le _ | decide | (dsimp only [rm]; omega), by first | exact Nat.le_refl _ | exact Nat.zero_le _ | decide | (dsimp only [rm]; omega)⟩ (rt1 ?_)
    exact gl_iret dX7_before_9 rfl ⟨rfl, rfl⟩ (hc := by first | exact Nat.zero_le _ | (dsimp only [rm]; omega)) (hs := by first | exact Nat.zero_le _ | (dsimp only [rm]; omega))
end CQ

