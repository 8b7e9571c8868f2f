/-! cards made; texts that can't go on; libraries laid -/
set_option maxRecDepth 100000
theorem lk_us {μ : Mem} {k : Nat} {c0 c : MC} (hl : lk μ k = some c0) : lk (up μ k c) k = some c := (lk_up hl k).trans (if_pos rfl)
theorem c_init (L : Nat) (μ : Mem) (k kd : Nat) (hk : kd ≤ 5) (a b c d n s h g : Int32) (hl : lk μ k = some (.inr (.inr (2 + kd, cdO a b c d)))) : Ct yX2_init gX2_init (L + 11) 0 0 [.ref k, .int n, .int s, .int h, .int g] μ (Rt none (up μ k (.inr (.inr (2 + kd, cdO n s h g))))) := by
  refine Ct.of rfl rfl rfl rfl rfl ?_
  match kd, hk, hl with
  | 0, _, hl =>
    refine gl_aload_n dX2_init_0 rfl ?_
    refine gl_objInit dX2_init_1 q445 q102 q103 (by dsimp only [rm]; omega) (by dsimp only [rm, List.map, Value.category, List.sum, List.foldr]; omega) ?_
    refine gl_aload_n dX2_init_4 rfl ?_
    refine gl_iload_n dX2_init_5 rfl ?_
    refine gl_putF (k := 0) dX2_init_6 hl (rfl : vwCl[2]? = some (RX2, TX2, 4)) in_X2 tyX2 tyX2_ok nmX2 (by decide) rfl rfl rfl q446 (fun _ _ => ⟨rfl, rfl⟩) rfl ?_
    refine gl_aload_n dX2_init_9 rfl ?_
    refine gl_iload_n dX2_init_10 rfl ?_
    refine gl_putF (k := 1) dX2_init_11 (lk_us hl) (rfl : vwCl[2]? = some (RX2, TX2, 4)) in_X2 tyX2 tyX2_ok nmX2 (by decide) rfl rfl rfl q447 (fun _ _ => ⟨rfl, rfl⟩) rfl ?_
    refine gl_aload_n dX2_init_14 rfl ?_
    refine gl_iload_n dX2_init_15 rfl ?_
    refine gl_put (k := 2) dX2_init_16 (lk_us (lk_us hl)) (rfl : vwCl[2]? = some (RX2, TX2, 4)) in_X2 tyX2 tyX2_ok nmX2 (by decide) rfl q448 (fun _ _ => ⟨rfl, rfl⟩) rfl ?_
    refine gl_aload_n dX2_init_19 rfl ?_
    refine gl_iload dX2_init_20 rfl ?_
    refine gl_put (k := 3) dX2_init_22 (lk_us (lk_us (lk_us hl))) (rfl : vwCl[2]? = some (RX2, TX2, 4)) in_X2 tyX2 tyX2_ok nmX2 (by decide) rfl q451 (fun _ _ => ⟨rfl, rfl⟩) rfl ?_
    exact gl_vret dX2_init_25 rfl ⟨rfl, by rw [up_up, up_up, up_up]; rfl⟩ (hc := by first | exact Nat.zero_le _ | (dsimp only [rm]; omega)) (hs := by first | exact Nat.zero_le _ | (dsimp only [rm]; omega))
  | 1, _, hl =>
    refine gl_aload_n dX2_init_0 rfl ?_
    refine gl_objInit dX2_init_1 q445 q102 q103 (by dsimp only [rm]; omega) (by dsimp only [rm, List.map, Value.category, List.sum, List.foldr]; omega) ?_
    refine gl_aload_n dX2_init_4 rfl ?_
    refine gl_iload_n dX2_init_5 rfl ?_
    refine gl_putF (k := 0) dX2_init_6 hl (rfl : vwCl[3]? = some (RX3, TX3, 4)) in_X3 tyX3 tyX3_ok nmX3 (by decide) rfl rfl rfl q446 (fun _ _ => ⟨rfl, rfl⟩) rfl ?_
    refine gl_aload_n dX2_init_9 rfl ?_
    refine gl_iload_n dX2_init_10 rfl ?_
    refine gl_putF (k := 1) dX2_init_11 (lk_us hl) (rfl : vwCl[3]? = some (RX3, TX3, 4)) in_X3 tyX3 tyX3_ok nmX3 (by decide) rfl rfl rfl q447 (fun _ _ => ⟨rfl, rfl⟩) rfl ?_
    refine gl_aload_n dX2_init_14 rfl ?_
    refine gl_iload_n dX2_init_15 rfl ?_
    refine gl_put (k := 2) dX2_init_16 (lk_us (lk_us hl)) (rfl : vwCl[3]? = some (RX3, TX3, 4)) in_X3 tyX3 tyX3_ok nmX3 (by decide) rfl q448 (fun _ _ => ⟨rfl, rfl⟩) rfl ?_
    refine gl_aload_n dX2_init_19 rfl ?_
    refine gl_iload dX2_init_20 rfl ?_
    refine gl_put (k := 3) dX2_init_22 (lk_us (lk_us (lk_us hl))) (rfl : vwCl[3]? = some (RX3, TX3, 4)) in_X3 tyX3 tyX3_ok nmX3 (by decide) rfl q451 (fun _ _ => ⟨rfl, rfl⟩) rfl ?_
    exact gl_vret dX2_init_25 rfl ⟨rfl, by rw [up_up, up_up, up_up]; rfl⟩ (hc := by first | exact Nat.zero_le _ | (dsimp only [rm]; omega)) (hs := by first | exact Nat.zero_le _ | (dsimp only [rm]; omega))
  | 2, _, hl =>
    refine gl_aload_n dX2_init_0 rfl ?_
    refine gl_objInit dX2_init_1 q445 q102 q103 (by dsimp only [rm]; omega) (by dsimp only [rm, List.map, Value.category, List.sum, List.foldr]; omega) ?_
    refine gl_aload_n dX2_init_4 rfl ?_
    refine gl_iload_n dX2_init_5 rfl ?_
    refine gl_putF (k := 0) dX2_init_6 hl (rfl : vwCl[4]? = some (RX4, TX4, 4)) in_X4 tyX4 tyX4_ok nmX4 (by decide) rfl rfl rfl q446 (fun _ _ => ⟨rfl, rfl⟩) rfl ?_
    refine gl_aload_n dX2_init_9 rfl ?_
    refine gl_iload_n dX2_init_10 rfl ?_
    refine gl_putF (k := 1) dX2_init_11 (lk_us hl) (rfl : vwCl[4]? = some (RX4, TX4, 4)) in_X4 tyX4 tyX4_ok nmX4 (by decide) rfl rfl rfl q447 (fun _ _ => ⟨rfl, rfl⟩) rfl ?_
    refine gl_aload_n dX2_init_14 rfl ?_
    refine gl_iload_n dX2_init_15 rfl ?_
    refine gl_put (k := 2) dX2_init_16 (lk_us (lk_us hl)) (rfl : vwCl[4]? = some (RX4, TX4, 4)) in_X4 tyX4 tyX4_ok nmX4 (by decide) rfl q448 (fun _ _ => ⟨rfl, rfl⟩) rfl ?_
    refine gl_aload_n dX2_init_19 rfl ?_
    refine gl_iload dX2_init_20 rfl ?_
    refine gl_put (k := 3) dX2_init_22 (lk_us (lk_us (lk_us hl))) (rfl : vwCl[4]? = some (RX4, TX4, 4)) in_X4 tyX4 tyX4_ok nmX4 (by decide) rfl q451 (fun _ _ => ⟨rfl, rfl⟩) rfl ?_
    exact gl_vret dX2_init_25 rfl ⟨rfl, by rw [up_up, up_up, up_up]; rfl⟩ (hc := by first | exact Nat.zero_le _ | (dsimp only [rm]; omega)) (hs := by first | exact Nat.zero_le _ | (dsimp only [rm]; omega))
  | 3, _, hl =>
    refine gl_aload_n dX2_init_0 rfl ?_
    refine gl_objInit dX2_init_1 q445 q102 q103 (by dsimp only [rm]; omega) (by dsimp only [rm, List.map, Value.category, List.sum, List.foldr]; omega) ?_
    refine gl_aload_n dX2_init_4 rfl ?_
    refine gl_iload_n dX2_init_5 rfl ?_
    refine gl_putF (k := 0) dX2_init_6 hl (rfl : vwCl[5]? = some (RX5, TX5, 4)) in_X5 tyX5 tyX5_ok nmX5 (by decide) rfl rfl rfl q446 (fun _ _ => ⟨rfl, rfl⟩) rfl ?_
    refine gl_aload_n dX2_init_9 rfl ?_
    refine gl_iload_n dX2_init_10 rfl ?_
    refine gl_putF (k := 1) dX2_init_11 (lk_us hl) (rfl : vwCl[5]? = some (RX5, TX5, 4)) in_X5 tyX5 tyX5_ok nmX5 (by decide) rfl rfl rfl q447 (fun _ _ => ⟨rfl, rfl⟩) rfl ?_
    refine gl_aload_n dX2_init_14 rfl ?_
    refine gl_iload_n dX2_init_15 rfl ?_
    refine gl_put (k := 2) dX2_init_16 (lk_us (lk_us hl)) (rfl : vwCl[5]? = some (RX5, TX5, 4)) in_X5 tyX5 tyX5_ok nmX5 (by decide) rfl q448 (fun _ _ => ⟨rfl, rfl⟩) rfl ?_
    refine gl_aload_n dX2_init_19 rfl ?_
    refine gl_iload dX2_init_20 rfl ?_
    refine gl_put (k := 3) dX2_init_22 (lk_us (lk_us (lk_us hl))) (rfl : vwCl[5]? = some (RX5, TX5, 4)) in_X5 tyX5 tyX5_ok nmX5 (by decide) rfl q451 (fun _ _ => ⟨rfl, rfl⟩) rfl ?_
    exact gl_vret dX2_init_25 rfl ⟨rfl, by rw [up_up, up_up, up_up]; rfl⟩ (hc := by first | exact Nat.zero_le _ | (dsimp only [rm]; omega)) (hs := by first | exact Nat.zero_le _ | (dsimp only [rm]; omega))
  | 4, _, hl =>
    refine gl_aload_n dX2_init_0 rfl ?_
    refine gl_objInit dX2_init_1 q445 q102 q103 (by dsimp only [rm]; omega) (by dsimp only [rm, List.map, Value.category, List.sum, List.foldr]; omega) ?_
    refine gl_aload_n dX2_init_4 rfl ?_
    refine gl_iload_n dX2_init_5 rfl ?_
    refine gl_putF (k := 0) dX2_init_6 hl (rfl : vwCl[6]? = some (RX6, TX6, 4)) in_X6 tyX6 tyX6_ok nmX6 (by decide) rfl rfl rfl q446 (fun _ _ => ⟨rfl, rfl⟩) rfl ?_
    refine gl_aload_n dX2_init_9 rfl ?_
    refine gl_iload_n dX2_init_10 rfl ?_
    refine gl_putF (k := 1) dX2_init_11 (lk_us hl) (rfl : vwCl[6]? = some (RX6, TX6, 4)) in_X6 tyX6 tyX6_ok nmX6 (by decide) rfl rfl rfl q447 (fun _ _ => ⟨rfl, rfl⟩) rfl ?_
    refine gl_aload_n dX2_init_14 rfl ?_
    refine gl_iload_n dX2_init_15 rfl ?_
    refine gl_put (k := 2) dX2_init_16 (lk_us (lk_us hl)) (rfl : vwCl[6]? = some (RX6, TX6, 4)) in_X6 tyX6 tyX6_ok nmX6 (by decide) rfl q448 (fun _ _ => ⟨rfl, rfl⟩) rfl ?_
    refine gl_aload_n dX2_init_19 rfl ?_
    refine gl_iload dX2_init_20 rfl ?_
    refine gl_put (k := 3) dX2_init_22 (lk_us (lk_us (lk_us hl))) (rfl : vwCl[6]? = some (RX6, TX6, 4)) in_X6 tyX6 tyX6_ok nmX6 (by decide) rfl q451 (fun _ _ => ⟨rfl, rfl⟩) rfl ?_
    exact gl_vret dX2_init_25 rfl ⟨rfl, by rw [up_up, up_up, up_up]; rfl⟩ (hc := by first | exact Nat.zero_le _ | (dsimp only [rm]; omega)) (hs := by first | exact Nat.zero_le _ | (dsimp only [rm]; omega))
  | 5, _, hl =>
    refine gl_aload_n dX2_init_0 rfl ?_
    refine gl_objInit dX2_init_1 q445 q102 q103 (by dsimp only [rm]; omega) (by dsimp only [rm, List.map, Value.category, List.sum, List.foldr]; omega) ?_
    refine gl_aload_n dX2_init_4 rfl ?_
    refine gl_iload_n dX2_init_5 rfl ?_
    refine gl_putF (k := 0) dX2_init_6 hl (rfl : vwCl[7]? = some (RX7, TX7, 4)) in_X7 tyX7 tyX7_ok nmX7 (by decide) rfl rfl rfl q446 (fun _ _ => ⟨rfl, rfl⟩) rfl ?_
    refine gl_aload_n dX2_init_9 rfl ?_
    refine gl_iload_n dX2_init_10 rfl ?_
    refine gl_putF (k := 1) dX2_init_11 (lk_us hl) (rfl : vwCl[7]? = some (RX7, TX7, 4)) in_X7 tyX7 tyX7_ok nmX7 (by decide) rfl rfl rfl q447 (fun _ _ => ⟨rfl, rfl⟩) rfl ?_
    refine gl_aload_n dX2_init_14 rfl ?_
    refine gl_iload_n dX2_init_15 rfl ?_
    refine gl_put (k := 2) dX2_init_16 (lk_us (lk_us hl)) (rfl : vwCl[7]? = some (RX7, TX7, 4)) in_X7 tyX7 tyX7_ok nmX7 (by decide) rfl q448 (fun _ _ => ⟨rfl, rfl⟩) rfl ?_
    refine gl_aload_n dX2_init_19 rfl ?_
    refine gl_iload dX2_init_20 rfl ?_
    refine gl_put (k := 3) dX2_init_22 (lk_us (lk_us (lk_us hl))) (rfl : vwCl[7]? = some (RX7, TX7, 4)) in_X7 tyX7 tyX7_ok nmX7 (by decide) rfl q451 (fun _ _ => ⟨rfl, rfl⟩) rfl ?_
    exact gl_vret dX2_init_25 rfl ⟨rfl, by rw [up_up, up_up, up_up]; rfl⟩ (hc := by first | exact Nat.zero_le _ | (dsimp only [rm]; omega)) (hs := by first | exact Nat.zero_le _ | (dsimp only [rm]; omega))
theorem c_iX3 (L : Nat) (μ : Mem) (k kd : Nat) (hk : kd ≤ 5) (a b c d n s h g : Int32) (hl : lk μ k = some (.inr (.inr (2 + kd, cdO a b c d)))) : Ct yX3_init gX3_init (L + 12) 0 0 [.ref k, .int n, .int s, .int h, .int g] μ (Rt none (up μ k (.inr (.inr (2 + kd, cdO n s h g))))) := by
  refine Ct.of rfl rfl rfl rfl rfl ?_
  refine gl_aload_n dX3_init_0 rfl ?_
  refine gl_iload_n dX3_init_1 rfl ?_
  refine gl_iload_n dX3_init_2 rfl ?_
  refine gl_iload_n dX3_init_3 rfl ?_
  refine gl_iload dX3_init_4 rfl ?_
  refine gl_callI (c_init L μ k kd hk a b c d n s h g hl) dX3_init_6 q442 q443 q86 q444 rfl rfl rfl hX2_init rfl rfl (rmOk (by omega) rfl) ⟨by first | exact Nat.le_refl _ | exact Nat.zero_le _ | decide | (dsimp only [rm]; omega), by first | exact Nat.le_refl _ | exact Nat.zero_le _ | decide | (dsimp only [rm]; omega)⟩ (rt1 ?_)
  exact gl_vret dX3_init_9 rfl ⟨rfl, rfl⟩ (hc := by first | exact Nat.zero_le _ | (dsimp only [rm]; omega)) (hs := by first | exact Nat.zero_le _ | (dsimp only [rm]; omega))
theorem c_iX4 (L : Nat) (μ : Mem) (k kd : Nat) (hk : kd ≤ 5) (a b c d n s h g : Int32) (hl : lk μ k = some (.inr (.inr (2 + kd, cdO a b c d)))) : Ct yX4_init gX4_init (L + 12) 0 0 [.ref k, .int n, .int s, .int h, .int g] μ (Rt none (up μ k (.inr (.inr (2 + kd, cdO n s h g))))) := by
  refine Ct.of rfl rfl rfl rfl rfl ?_
  refine gl_aload_n dX4_init_0 rfl ?_
  refine gl_iload_n dX4_init_1 rfl ?_
  refine gl_iload_n dX4_init_2 rfl ?_
  refine gl_iload_n dX4_init_3 rfl ?_
  refine gl_iload dX4_init_4 rfl ?_
  refine gl_callI (c_init L μ k kd hk a b c d n s h g hl) dX4_init_6 q467 q443 q86 q444 rfl rfl rfl hX2_init rfl rfl (rmOk (by omega) rfl) ⟨by first | exact Nat.le_refl _ | exact Nat.zero_le _ | decide | (dsimp only [rm]; omega), by first | exact Nat.le_refl _ | exact Nat.zero_le _ | decide | (dsimp only [rm]; omega)⟩ (rt1 ?_)
  exact gl_vret dX4_init_9 rfl ⟨rfl, rfl⟩ (hc := by first | exact Nat.zero_le _ | (dsimp only [rm]; omega)) (hs := by first | exact Nat.zero_le _ | (dsimp only [rm]; omega))
theorem c_iX6 (L : Nat) (μ : Mem) (k kd : Nat) (hk : kd ≤ 5) (a b c d n s h g : Int32) (hl : lk μ k = some (.inr (.inr (2 + kd, cdO a b c d)))) : Ct yX6_init gX6_init (L + 12) 0 0 [.ref k, .int n, .int s, .int h, .int g] μ (Rt none (up μ k (.inr (.inr (2 + kd, cdO n s h g))))) := by
  refine Ct.of rfl rfl rfl rfl rfl ?_
  refine gl_aload_n dX6_init_0 rfl ?_
  refine gl_iload_n dX6_init_1 rfl ?_
  refine gl_iload_n dX6_init_2 rfl ?_
  refine gl_iload_n dX6_init_3 rfl ?_
  refine gl_iload dX6_init_4 rfl ?_
  refine gl_callI (c_init L μ k kd hk a b c d n s h g hl) dX6_init_6 q489 q443 q86 q444 rfl rfl rfl hX2_init rfl rfl (rmOk (by omega) rfl) ⟨by first | exact Nat.le_refl _ | exact Nat.zero_le _ | decide | (dsimp only [rm]; omega), by first | exact Nat.le_refl _ | exact Nat.zero_le _ | decide | (dsimp only [rm]; omega)⟩ (rt1 ?_)
  exact gl_vret dX6_init_9 rfl ⟨rfl, rfl⟩ (hc := by first | exact Nat.zero_le _ | (dsimp only [rm]; omega)) (hs := by first | exact Nat.zero_le _ | (dsimp only [rm]; omega))
theorem c_iX5 (L : Nat) (μ : Mem) (k kd : Nat) (hk : kd ≤ 5) (a b c d n s h g : Int32) (hl : lk μ k = some (.inr (.inr (2 + kd, cdO a b c d)))) : Ct yX5_init gX5_init (L + 13) 0 0 [.ref k, .int n, .int s, .int h, .int g] μ (Rt none (up μ k (.inr (.inr (2 + kd, cdO n s h g))))) := by
  refine Ct.of rfl rfl rfl rfl rfl ?_
  refine gl_aload_n dX5_init_0 rfl ?_
  refine gl_iload_n dX5_init_1 rfl ?_
  refine gl_iload_n dX5_init_2 rfl ?_
  refine gl_iload_n dX5_init_3 rfl ?_
  refine gl_iload dX5_init_4 rfl ?_
  refine gl_callI (c_iX3 L μ k kd hk a b c d n s h g hl) dX5_init_6 q478 q440 q87 q441 rfl rfl rfl hX3_init rfl rfl (rmOk (by omega) rfl) ⟨by first | exact Nat.le_refl _ | exact Nat.zero_le _ | decide | (dsimp only [rm]; omega), by first | exact Nat.le_refl _ | exact Nat.zero_le _ | decide | (dsimp only [rm]; omega)⟩ (rt1 ?_)
  exact gl_vret dX5_init_9 rfl ⟨rfl, rfl⟩ (hc := by first | exact Nat.zero_le _ | (dsimp only [rm]; omega)) (hs := by first | exact Nat.zero_le _ | (dsimp only [rm]; omega))
theorem c_iX7 (L : Nat) (μ : Mem) (k kd : Nat) (hk : kd ≤ 5) (a b c d n s h g : Int32) (hl : lk μ k = some (.inr (.inr (2 + kd, cdO a b c d)))) : Ct yX7_init gX7_init (L + 13) 0 0 [.ref k, .int n, .int s, .int h, .int g] μ (Rt none (up μ k (.inr (.inr (2 + kd, cdO n s h g))))) := by
  refine Ct.of rfl rfl rfl rfl rfl ?_
  refine gl_aload_n dX7_init_0 rfl ?_
  refine gl_iload_n dX7_init_1 rfl ?_
  refine gl_iload_n dX7_init_2 rfl ?_
  refine gl_iload_n dX7_init_3 rfl ?_
  refine gl_iload dX7_init_4 rfl ?_
  refine gl_callI (c_iX4 L μ k kd hk a b c d n s h g hl) dX7_init_6 q500 q465 q88 q466 rfl rfl rfl hX4_init rfl rfl (rmOk (by omega) rfl) ⟨by first | exact Nat.le_refl _ | exact Nat.zero_le _ | decide | (dsimp only [rm]; omega), by first | exact Nat.le_refl _ | exact Nat.zero_le _ | decide | (dsimp only [rm]; omega)⟩ (rt1 ?_)
  exact gl_vret dX7_init_9 rfl ⟨rfl, rfl⟩ (hc := by first | exact Nat.zero_le _ | (dsimp only [rm]; omega)) (hs := by first | exact Nat.zero_le _ | (dsimp only [rm]; omega))
def chr (kd : Nat) : Int32 := match kd with
  | 0 => 110
  | 1 => 121
  | 2 => 112
  | 3 => 118
  | 4 => 116
  | _ => 98
theorem knd_inv {c : Int32} {kd : Nat} (hk : kd ≤ 5) (h : knd c = nI kd) : c = chr kd := by
  unfold knd at h
  have ne : ∀ a b : Nat, a ≤ 5 → b ≤ 5 → nI a = nI b → a = b := fun a b h1 h2 q => (nI_eq (by omega) (by omega)).mp q
  by_cases h0 : c = 110
  · rw [if_pos h0] at h; rw [← ne 0 kd (by omega) hk h]; exact h0
  · rw [if_neg h0] at h
    by_cases h1 : c = 121
    · rw [if_pos h1] at h; rw [← ne 1 kd (by omega) hk h]; exact h1
    · rw [if_neg h1] at h
      by_cases h2 : c = 112
      · rw [if_pos h2] at h; rw [← ne 2 kd (by omega) hk h]; exact h2
      · rw [if_neg h2] at h
        by_cases h3 : c = 118
        · rw [if_pos h3] at h; rw [← ne 3 kd (by omega) hk h]; exact h3
        · rw [if_neg h3] at h
          by_cases h4 : c = 116
          · rw [if_pos h4] at h; rw [← ne 4 kd (by omega) hk h]; exact h4
          · rw [if_neg h4] at h
            by_cases h5 : c = 98
            · rw [if_pos h5] at h; rw [← ne 5 kd (by omega) hk h]; exact h5
            · rw [if_neg h5] at h
              exfalso
              have := congrArg Int32.toInt h
              rw [nI_toInt (by omega)] at this
              have e : (-1 : Int32).toInt = -1 := by decide
              omega
section XN
variable (L : Nat) {o : OX} {x : XY}
theorem x_newCard (h33 : 33 ≤ o.1) (kd : Nat) (hk : kd ≤ 5) (ch n s h g : Int32) (hch : knd ch = nI kd) : Ct yX0_newCard gX0_newCard (L + 15) 1 4 [.int ch, .int n, .int s, .int h, .int g] (mX o x) (Rt (some (.ref o.1)) (mX (oN o (.inr (.inr (2 + kd, cdO n s h g)))) x)) := by
  refine Ct.of rfl rfl rfl rfl rfl ?_
  have ech := knd_inv hk hch
  subst ech
  match kd, hk with
  | 0, _ =>
    refine gl_iload_n dX0_newCard_0 rfl ?_
    refine gl_lookup (tgt := 117) dX0_newCard_1 (by decide) rfl (by decide) ?_
    refine gl_new (fs := [.int 0, .int 0, .int 0, .int 0]) dX0_newCard_117 (rfl : vwCl[2]? = some (RX2, TX2, 4)) in_X2 tyX2 tyX2_ok q108 q506 q86 (fun _ _ j hj => by match j, hj with | 0, _ => rfl | 1, _ => rfl | 2, _ => rfl | 3, _ => rfl) (pok_hi h33) (by dsimp only [rm]; omega) (by dsimp only [rm]; omega) ?_
    refine gl_mem (psh_hi h33) ?_
    refine gl_dup dX0_newCard_120 rfl ?_
    refine gl_iload_n dX0_newCard_121 rfl ?_
    refine gl_iload_n dX0_newCard_122 rfl ?_
    refine gl_iload_n dX0_newCard_123 rfl ?_
    refine gl_iload dX0_newCard_124 rfl ?_
    refine gl_callI (c_init L (mX (oN o (.inr (.inr (2 + 0, cdO 0 0 0 0)))) x) o.1 0 (by omega) 0 0 0 0 n s h g ((lk_hi h33).trans (va_up_self _ _ _))) dX0_newCard_126 q507 q443 q86 q444 rfl rfl rfl hX2_init rfl rfl (rmOk (by omega) rfl) ⟨by first | exact Nat.le_refl _ | exact Nat.zero_le _ | decide | (dsimp only [rm]; omega), by first | exact Nat.le_refl _ | exact Nat.zero_le _ | decide | (dsimp only [rm]; omega)⟩ (rt1 ?_)
    refine gl_mem (μ1 := mX (oN o (.inr (.inr (2 + 0, cdO n s h g)))) x) (by rw [up_hi h33, oP_oN]) ?_
    exact gl_aret dX0_newCard_129 rfl (Or.inl ⟨_, rfl⟩) ⟨rfl, rfl⟩ (hc := by first | exact Nat.zero_le _ | (dsimp only [rm]; omega)) (hs := by first | exact Nat.zero_le _ | (dsimp only [rm]; omega))
  | 1, _ =>
    refine gl_iload_n dX0_newCard_0 rfl ?_
    refine gl_lookup (tgt := 52) dX0_newCard_1 (by decide) rfl (by decide) ?_
    refine gl_new (fs := [.int 0, .int 0, .int 0, .int 0]) dX0_newCard_52 (rfl : vwCl[3]? = some (RX3, TX3, 4)) in_X3 tyX3 tyX3_ok q437 q438 q87 (fun _ _ j hj => by match j, hj with | 0, _ => rfl | 1, _ => rfl | 2, _ => rfl | 3, _ => rfl) (pok_hi h33) (by dsimp only [rm]; omega) (by dsimp only [rm]; omega) ?_
    refine gl_mem (psh_hi h33) ?_
    refine gl_dup dX0_newCard_55 rfl ?_
    refine gl_iload_n dX0_newCard_56 rfl ?_
    refine gl_iload_n dX0_newCard_57 rfl ?_
    refine gl_iload_n dX0_newCard_58 rfl ?_
    refine gl_iload dX0_newCard_59 rfl ?_
    refine gl_callI (c_iX3 L (mX (oN o (.inr (.inr (2 + 1, cdO 0 0 0 0)))) x) o.1 1 (by omega) 0 0 0 0 n s h g ((lk_hi h33).trans (va_up_self _ _ _))) dX0_newCard_61 q439 q440 q87 q441 rfl rfl rfl hX3_init rfl rfl (rmOk (by omega) rfl) ⟨by first | exact Nat.le_refl _ | exact Nat.zero_le _ | decide | (dsimp only [rm]; omega), by first | exact Nat.le_refl _ | exact Nat.zero_le _ | decide | (dsimp only [rm]; omega)⟩ (rt1 ?_)
    refine gl_mem (μ1 := mX (oN o (.inr (.inr (2 + 1, cdO n s h g)))) x) (by rw [up_hi h33, oP_oN]) ?_
    exact gl_aret dX0_newCard_64 rfl (Or.inl ⟨_, rfl⟩) ⟨rfl, rfl⟩ (hc := by first | exact Nat.zero_le _ | (dsimp only [rm]; omega)) (hs := by first | exact Nat.zero_le _ | (dsimp only [rm]; omega))
  | 2, _ =>
    refine gl_iload_n dX0_newCard_0 rfl ?_
    refine gl_lookup (tgt := 65) dX0_newCard_1 (by decide) rfl (by decide) ?_
    refine gl_new (fs := [.int 0, .int 0, .int 0, .int 0]) dX0_newCard_65 (rfl : vwCl[4]? = some (RX4, TX4, 4)) in_X4 tyX4 tyX4_ok q462 q463 q88 (fun _ _ j hj => by match j, hj with | 0, _ => rfl | 1, _ => rfl | 2, _ => rfl | 3, _ => rfl) (pok_hi h33) (by dsimp only [rm]; omega) (by dsimp only [rm]; omega) ?_
    refine gl_mem (psh_hi h33) ?_
    refine gl_dup dX0_newCard_68 rfl ?_
    refine gl_iload_n dX0_newCard_69 rfl ?_
    refine gl_iload_n dX0_newCard_70 rfl ?_
    refine gl_iload_n dX0_newCard_71 rfl ?_
    refine gl_iload dX0_newCard_72 rfl ?_
    refine gl_callI (c_iX4 L (mX (oN o (.inr (.inr (2 + 2, cdO 0 0 0 0)))) x) o.1 2 (by omega) 0 0 0 0 n s h g ((lk_hi h33).trans (va_up_self _ _ _))) dX0_newCard_74 q464 q465 q88 q466 rfl rfl rfl hX4_init rfl rfl (rmOk (by omega) rfl) ⟨by first | exact Nat.le_refl _ | exact Nat.zero_le _ | decide | (dsimp only [rm]; omega), by first | exact Nat.le_refl _ | exact Nat.zero_le _ | decide | (dsimp only [rm]; omega)⟩ (rt1 ?_)
    refine gl_mem (μ1 := mX (oN o (.inr (.inr (2 + 2, cdO n s h g)))) x) (by rw [up_hi h33, oP_oN]) ?_
    exact gl_aret dX0_newCard_77 rfl (Or.inl ⟨_, rfl⟩) ⟨rfl, rfl⟩ (hc := by first | exact Nat.zero_le _ | (dsimp only [rm]; omega)) (hs := by first | exact Nat.zero_le _ | (dsimp only [rm]; omega))
  | 3, _ =>
    refine gl_iload_n dX0_newCard_0 rfl ?_
    refine gl_lookup (tgt := 78) dX0_newCard_1 (by decide) rfl (by decide) ?_
    refine gl_new (fs := [.int 0, .int 0, .int 0, .int 0]) dX0_newCard_78 (rfl : vwCl[5]? = some (RX5, TX5, 4)) in_X5 tyX5 tyX5_ok q473 q474 q89 (fun _ _ j hj => by match j, hj with | 0, _ => rfl | 1, _ => rfl | 2, _ => rfl | 3, _ => rfl) (pok_hi h33) (by dsimp only [rm]; omega) (by dsimp only [rm]; omega) ?_
    refine gl_mem (psh_hi h33) ?_
    refine gl_dup dX0_newCard_81 rfl ?_
    refine gl_iload_n dX0_newCard_82 rfl ?_
    refine gl_iload_n dX0_newCard_83 rfl ?_
    refine gl_iload_n dX0_newCard_84 rfl ?_
    refine gl_iload dX0_newCard_85 rfl ?_
    refine gl_callI (c_iX5 L (mX (oN o (.inr (.inr (2 + 3, cdO 0 0 0 0)))) x) o.1 3 (by omega) 0 0 0 0 n s h g ((lk_hi h33).trans (va_up_self _ _ _))) dX0_newCard_87 q475 q476 q89 q477 rfl rfl rfl hX5_init rfl rfl (rmOk (by omega) rfl) ⟨by first | exact Nat.le_refl _ | exact Nat.zero_le _ | decide | (dsimp only [rm]; omega), by first | exact Nat.le_refl _ | exact Nat.zero_le _ | decide | (dsimp only [rm]; omega)⟩ (rt1 ?_)
    refine gl_mem (μ1 := mX (oN o (.inr (.inr (2 + 3, cdO n s h g)))) x) (by rw [up_hi h33, oP_oN]) ?_
    exact gl_aret dX0_newCard_90 rfl (Or.inl ⟨_, rfl⟩) ⟨rfl, rfl⟩ (hc := by first | exact Nat.zero_le _ | (dsimp only [rm]; omega)) (hs := by first | exact Nat.zero_le _ | (dsimp only [rm]; omega))
  | 4, _ =>
    refine gl_iload_n dX0_newCard_0 rfl ?_
    refine gl_lookup (tgt := 91) dX0_newCard_1 (by decide) rfl (by decide) ?_
    refine gl_new (fs := [.int 0, .int 0, .int 0, .int 0]) dX0_newCard_91 (rfl : vwCl[6]? = some (RX6, TX6, 4)) in_X6 tyX6 tyX6_ok q484 q485 q90 (fun _ _ j hj => by match j, hj with | 0, _ => rfl | 1, _ => rfl | 2, _ => rfl | 3, _ => rfl) (pok_hi h33) (by dsimp only [rm]; omega) (by dsimp only [rm]; omega) ?_
    refine gl_mem (psh_hi h33) ?_
    refine gl_dup dX0_newCard_94 rfl ?_
    refine gl_iload_n dX0_newCard_95 rfl ?_
    refine gl_iload_n dX0_newCard_96 rfl ?_
    refine gl_iload_n dX0_newCard_97 rfl ?_
    refine gl_iload dX0_newCard_98 rfl ?_
    refine gl_callI (c_iX6 L (mX (oN o (.inr (.inr (2 + 4, cdO 0 0 0 0)))) x) o.1 4 (by omega) 0 0 0 0 n s h g ((lk_hi h33).trans (va_up_self _ _ _))) dX0_newCard_100 q486 q487 q90 q488 rfl rfl rfl hX6_init rfl rfl (rmOk (by omega) rfl) ⟨by first | exact Nat.le_refl _ | exact Nat.zero_le _ | decide | (dsimp only [rm]; omega), by first | exact Nat.le_refl _ | exact Nat.zero_le _ | decide | (dsimp only [rm]; omega)⟩ (rt1 ?_)
    refine gl_mem (μ1 := mX (oN o (.inr (.inr (2 + 4, cdO n s h g)))) x) (by rw [up_hi h33, oP_oN]) ?_
    exact gl_aret dX0_newCard_103 rfl (Or.inl ⟨_, rfl⟩) ⟨rfl, rfl⟩ (hc := by first | exact Nat.zero_le _ | (dsimp only [rm]; omega)) (hs := by first | exact Nat.zero_le _ | (dsimp only [rm]; omega))
  | 5, _ =>
    refine gl_iload_n dX0_newCard_0 rfl ?_
    refine gl_lookup (tgt := 104) dX0_newCard_1 (by decide) rfl (by decide) ?_
    refine gl_new (fs := [.int 0, .int 0, .int 0, .int 0]) dX0_newCard_104 (rfl : vwCl[7]? = some (RX7, TX7, 4)) in_X7 tyX7 tyX7_ok q495 q496 q91 (fun _ _ j hj => by match j, hj with | 0, _ => rfl | 1, _ => rfl | 2, _ => rfl | 3, _ => rfl) (pok_hi h33) (by dsimp only [rm]; omega) (by dsimp only [rm]; omega) ?_
    refine gl_mem (psh_hi h33) ?_
    refine gl_dup dX0_newCard_107 rfl ?_
    refine gl_iload_n dX0_newCard_108 rfl ?_
    refine gl_iload_n dX0_newCard_109 rfl ?_
    refine gl_iload_n dX0_newCard_110 rfl ?_
    refine gl_iload dX0_newCard_111 rfl ?_
    refine gl_callI (c_iX7 L (mX (oN o (.inr (.inr (2 + 5, cdO 0 0 0 0)))) x) o.1 5 (by omega) 0 0 0 0 n s h g ((lk_hi h33).trans (va_up_self _ _ _))) dX0_newCard_113 q497 q498 q91 q499 rfl rfl rfl hX7_init rfl rfl (rmOk (by omega) rfl) ⟨by first | exact Nat.le_refl _ | exact Nat.zero_le _ | decide | (dsimp only [rm]; omega), by first | exact Nat.le_refl _ | exact Nat.zero_le _ | decide | (dsimp only [rm]; omega)⟩ (rt1 ?_)
    refine gl_mem (μ1 := mX (oN o (.inr (.inr (2 + 5, cdO n s h g)))) x) (by rw [up_hi h33, oP_oN]) ?_
    exact gl_aret dX0_newCard_116 rfl (Or.inl ⟨_, rfl⟩) ⟨rfl, rfl⟩ (hc := by first | exact Nat.zero_le _ | (dsimp only [rm]; omega)) (hs := by first | exact Nat.zero_le _ | (dsimp only [rm]; omega))
end XN

