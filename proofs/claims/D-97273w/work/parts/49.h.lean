/-! cards: what they mean -/
set_option maxRecDepth 100000
theorem c_mean1 (L : Nat) (μ : Mem) (k : Nat) (c s h g : Int32) (hl : lk μ k = some (.inr (.inr (3, cdO c s h g)))) : Ct yX3_means gX3_means (L + 11) 0 0 [.ref k] μ (Rt (some (.int (mnk 1 s g))) μ) := by
  refine Ct.of rfl rfl rfl rfl rfl ?_
  refine gl_aload_n dX3_means_0 rfl ?_
  refine gl_callSU (c_means L μ k 1 (by omega) c s h g hl) dX3_means_1 q582 q558 q461 q556 q86 q583 rfl ⟨by decide, hX2_means.2.2⟩ hl (rfl : vwCl[3]? = some (RX3, TX3, 4)) rfl rfl (rmOk (by omega) rfl) ⟨by first | exact Nat.le_refl _ | exact Nat.zero_le _ | decide | (dsimp only [rm]; omega), by first | exact Nat.le_refl _ | exact Nat.zero_le _ | decide | (dsimp only [rm]; omega)⟩ (rt1 ?_)
  refine gl_iconst (v := nI 5) dX3_means_4 (by decide) ?_
  refine gl_icmp_lt (tgt := 12) dX3_means_5 (by decide) (fun h5 => ?_) (fun h5 => ?_)
  · refine gl_iconst (v := nI 0) dX3_means_12 (by decide) ?_
    exact gl_iret dX3_means_13 rfl ⟨by unfold mnk; rw [if_pos rfl, if_pos (show s < 5 from h5)]; rfl, rfl⟩
  · refine gl_iconst (v := nI 1) dX3_means_8 (by decide) ?_
    refine gl_goto (tgt := 13) dX3_means_9 (by decide) ?_
    exact gl_iret dX3_means_13 rfl ⟨by unfold mnk; rw [if_pos rfl, if_neg (show ¬ s < 5 from h5)]; rfl, rfl⟩
theorem c_mean3 (L : Nat) (μ : Mem) (k : Nat) (s g : Int32) : Ct yX5_means gX5_means (L + 11) 0 0 [.ref k] μ (Rt (some (.int (mnk 3 s g))) μ) := by
  refine Ct.of rfl rfl rfl rfl rfl ?_
  refine gl_iconst (v := nI 0) dX5_means_0 (by decide) ?_
  exact gl_iret dX5_means_1 rfl ⟨rfl, rfl⟩
theorem c_mean4 (L : Nat) (μ : Mem) (k : Nat) (c s h g : Int32) (hl : lk μ k = some (.inr (.inr (6, cdO c s h g)))) : Ct yX6_means gX6_means (L + 11) 0 0 [.ref k] μ (Rt (some (.int (mnk 4 s g))) μ) := by
  refine Ct.of rfl rfl rfl rfl rfl ?_
  refine gl_aload_n dX6_means_0 rfl ?_
  refine gl_callSU (c_means L μ k 4 (by omega) c s h g hl) dX6_means_1 q572 q558 q494 q556 q86 q583 rfl ⟨by decide, hX2_means.2.2⟩ hl (rfl : vwCl[6]? = some (RX6, TX6, 4)) rfl rfl (rmOk (by omega) rfl) ⟨by first | exact Nat.le_refl _ | exact Nat.zero_le _ | decide | (dsimp only [rm]; omega), by first | exact Nat.le_refl _ | exact Nat.zero_le _ | decide | (dsimp only [rm]; omega)⟩ (rt1 ?_)
  refine gl_aload_n dX6_means_4 rfl ?_
  refine gl_callU (c_age L μ k 4 (by omega) c s h g hl) dX6_means_5 q573 q574 q577 q578 q576 q577 q86 q578 rfl ⟨by decide, by decide, hX2_age.2.2⟩ hl (rfl : vwCl[6]? = some (RX6, TX6, 4)) rfl rfl (rmOk (by omega) rfl) ⟨by first | exact Nat.le_refl _ | exact Nat.zero_le _ | decide | (dsimp only [rm]; omega), by first | exact Nat.le_refl _ | exact Nat.zero_le _ | decide | (dsimp only [rm]; omega)⟩ (rt1 ?_)
  refine gl_iadd dX6_means_8 ?_
  refine gl_bipush (v := nI 10) dX6_means_9 (by decide) ?_
  refine gl_irem dX6_means_11 (by decide) ?_
  exact gl_iret dX6_means_12 rfl ⟨rfl, rfl⟩
theorem c_mean5 (L : Nat) (μ : Mem) (k : Nat) (c s h g : Int32) (hl : lk μ k = some (.inr (.inr (7, cdO c s h g)))) : Ct yX7_means gX7_means (L + 11) 0 0 [.ref k] μ (Rt (some (.int (mnk 5 s g))) μ) := by
  refine Ct.of rfl rfl rfl rfl rfl ?_
  refine gl_iconst (v := nI 1) dX7_means_0 (by decide) ?_
  refine gl_aload_n dX7_means_1 rfl ?_
  refine gl_callSU2 (sup := "LostQuestions$Place") (c_means L μ k 5 (by omega) c s h g hl) dX7_means_2 q562 q563 q505 q472 q556 q86 q583 rfl ⟨by decide, hX2_means.2.2⟩ hl (rfl : vwCl[7]? = some (RX7, TX7, 4)) rfl rfl (rmOk (by omega) rfl) ⟨by first | exact Nat.le_refl _ | exact Nat.zero_le _ | decide | (dsimp only [rm]; omega), by first | exact Nat.le_refl _ | exact Nat.zero_le _ | decide | (dsimp only [rm]; omega)⟩ (rt1 ?_)
  refine gl_iadd dX7_means_5 ?_
  refine gl_bipush (v := nI 10) dX7_means_6 (by decide) ?_
  refine gl_irem dX7_means_8 (by decide) ?_
  exact gl_iret dX7_means_9 rfl ⟨by unfold mnk; rw [if_neg (by decide), if_neg (by decide), if_pos rfl, Int32.add_comm]; rfl, rfl⟩

