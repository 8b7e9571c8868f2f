/-! cards: what they tell -/
set_option maxRecDepth 100000
def cdO (c s h g : Int32) : List Value := [.int c, .int s, .int h, .int g]
theorem c_number (L : Nat) (μ : Mem) (k kd : Nat) (hk : kd ≤ 5) (c s h g : Int32) (hl : lk μ k = some (.inr (.inr (2 + kd, cdO c s h g)))) : Ct yX2_number gX2_number (L + 10) 0 0 [.ref k] μ (Rt (some (.int c)) μ) := by
  refine Ct.of rfl rfl rfl rfl rfl ?_
  match kd, hk, hl with
  | 0, _, hl =>
    refine gl_aload_n dX2_number_0 rfl ?_
    refine gl_get (k := 0) dX2_number_1 hl (rfl : vwCl[2]? = some (RX2, TX2, 4)) in_X2 (by decide) q446 rfl ?_
    exact gl_iret dX2_number_4 rfl ⟨rfl, rfl⟩
  | 1, _, hl =>
    refine gl_aload_n dX2_number_0 rfl ?_
    refine gl_get (k := 0) dX2_number_1 hl (rfl : vwCl[3]? = some (RX3, TX3, 4)) in_X3 (by decide) q446 rfl ?_
    exact gl_iret dX2_number_4 rfl ⟨rfl, rfl⟩
  | 2, _, hl =>
    refine gl_aload_n dX2_number_0 rfl ?_
    refine gl_get (k := 0) dX2_number_1 hl (rfl : vwCl[4]? = some (RX4, TX4, 4)) in_X4 (by decide) q446 rfl ?_
    exact gl_iret dX2_number_4 rfl ⟨rfl, rfl⟩
  | 3, _, hl =>
    refine gl_aload_n dX2_number_0 rfl ?_
    refine gl_get (k := 0) dX2_number_1 hl (rfl : vwCl[5]? = some (RX5, TX5, 4)) in_X5 (by decide) q446 rfl ?_
    exact gl_iret dX2_number_4 rfl ⟨rfl, rfl⟩
  | 4, _, hl =>
    refine gl_aload_n dX2_number_0 rfl ?_
    refine gl_get (k := 0) dX2_number_1 hl (rfl : vwCl[6]? = some (RX6, TX6, 4)) in_X6 (by decide) q446 rfl ?_
    exact gl_iret dX2_number_4 rfl ⟨rfl, rfl⟩
  | 5, _, hl =>
    refine gl_aload_n dX2_number_0 rfl ?_
    refine gl_get (k := 0) dX2_number_1 hl (rfl : vwCl[7]? = some (RX7, TX7, 4)) in_X7 (by decide) q446 rfl ?_
    exact gl_iret dX2_number_4 rfl ⟨rfl, rfl⟩
theorem c_says (L : Nat) (μ : Mem) (k kd : Nat) (hk : kd ≤ 5) (c s h g : Int32) (hl : lk μ k = some (.inr (.inr (2 + kd, cdO c s h g)))) : Ct yX2_says gX2_says (L + 10) 0 0 [.ref k] μ (Rt (some (.int s)) μ) := by
  refine Ct.of rfl rfl rfl rfl rfl ?_
  match kd, hk, hl with
  | 0, _, hl =>
    refine gl_aload_n dX2_says_0 rfl ?_
    refine gl_get (k := 1) dX2_says_1 hl (rfl : vwCl[2]? = some (RX2, TX2, 4)) in_X2 (by decide) q447 rfl ?_
    exact gl_iret dX2_says_4 rfl ⟨rfl, rfl⟩
  | 1, _, hl =>
    refine gl_aload_n dX2_says_0 rfl ?_
    refine gl_get (k := 1) dX2_says_1 hl (rfl : vwCl[3]? = some (RX3, TX3, 4)) in_X3 (by decide) q447 rfl ?_
    exact gl_iret dX2_says_4 rfl ⟨rfl, rfl⟩
  | 2, _, hl =>
    refine gl_aload_n dX2_says_0 rfl ?_
    refine gl_get (k := 1) dX2_says_1 hl (rfl : vwCl[4]? = some (RX4, TX4, 4)) in_X4 (by decide) q447 rfl ?_
    exact gl_iret dX2_says_4 rfl ⟨rfl, rfl⟩
  | 3, _, hl =>
    refine gl_aload_n dX2_says_0 rfl ?_
    refine gl_get (k := 1) dX2_says_1 hl (rfl : vwCl[5]? = some (RX5, TX5, 4)) in_X5 (by decide) q447 rfl ?_
    exact gl_iret dX2_says_4 rfl ⟨rfl, rfl⟩
  | 4, _, hl =>
    refine gl_aload_n dX2_says_0 rfl ?_
    refine gl_get (k := 1) dX2_says_1 hl (rfl : vwCl[6]? = some (RX6, TX6, 4)) in_X6 (by decide) q447 rfl ?_
    exact gl_iret dX2_says_4 rfl ⟨rfl, rfl⟩
  | 5, _, hl =>
    refine gl_aload_n dX2_says_0 rfl ?_
    refine gl_get (k := 1) dX2_says_1 hl (rfl : vwCl[7]? = some (RX7, TX7, 4)) in_X7 (by decide) q447 rfl ?_
    exact gl_iret dX2_says_4 rfl ⟨rfl, rfl⟩
theorem c_age (L : Nat) (μ : Mem) (k kd : Nat) (hk : kd ≤ 5) (c s h g : Int32) (hl : lk μ k = some (.inr (.inr (2 + kd, cdO c s h g)))) : Ct yX2_age gX2_age (L + 10) 0 0 [.ref k] μ (Rt (some (.int g)) μ) := by
  refine Ct.of rfl rfl rfl rfl rfl ?_
  match kd, hk, hl with
  | 0, _, hl =>
    refine gl_aload_n dX2_age_0 rfl ?_
    refine gl_get (k := 3) dX2_age_1 hl (rfl : vwCl[2]? = some (RX2, TX2, 4)) in_X2 (by decide) q451 rfl ?_
    exact gl_iret dX2_age_4 rfl ⟨rfl, rfl⟩
  | 1, _, hl =>
    refine gl_aload_n dX2_age_0 rfl ?_
    refine gl_get (k := 3) dX2_age_1 hl (rfl : vwCl[3]? = some (RX3, TX3, 4)) in_X3 (by decide) q451 rfl ?_
    exact gl_iret dX2_age_4 rfl ⟨rfl, rfl⟩
  | 2, _, hl =>
    refine gl_aload_n dX2_age_0 rfl ?_
    refine gl_get (k := 3) dX2_age_1 hl (rfl : vwCl[4]? = some (RX4, TX4, 4)) in_X4 (by decide) q451 rfl ?_
    exact gl_iret dX2_age_4 rfl ⟨rfl, rfl⟩
  | 3, _, hl =>
    refine gl_aload_n dX2_age_0 rfl ?_
    refine gl_get (k := 3) dX2_age_1 hl (rfl : vwCl[5]? = some (RX5, TX5, 4)) in_X5 (by decide) q451 rfl ?_
    exact gl_iret dX2_age_4 rfl ⟨rfl, rfl⟩
  | 4, _, hl =>
    refine gl_aload_n dX2_age_0 rfl ?_
    refine gl_get (k := 3) dX2_age_1 hl (rfl : vwCl[6]? = some (RX6, TX6, 4)) in_X6 (by decide) q451 rfl ?_
    exact gl_iret dX2_age_4 rfl ⟨rfl, rfl⟩
  | 5, _, hl =>
    refine gl_aload_n dX2_age_0 rfl ?_
    refine gl_get (k := 3) dX2_age_1 hl (rfl : vwCl[7]? = some (RX7, TX7, 4)) in_X7 (by decide) q451 rfl ?_
    exact gl_iret dX2_age_4 rfl ⟨rfl, rfl⟩
theorem c_means (L : Nat) (μ : Mem) (k kd : Nat) (hk : kd ≤ 5) (c s h g : Int32) (hl : lk μ k = some (.inr (.inr (2 + kd, cdO c s h g)))) : Ct yX2_means gX2_means (L + 10) 0 0 [.ref k] μ (Rt (some (.int s)) μ) := by
  refine Ct.of rfl rfl rfl rfl rfl ?_
  match kd, hk, hl with
  | 0, _, hl =>
    refine gl_aload_n dX2_means_0 rfl ?_
    refine gl_get (k := 1) dX2_means_1 hl (rfl : vwCl[2]? = some (RX2, TX2, 4)) in_X2 (by decide) q447 rfl ?_
    exact gl_iret dX2_means_4 rfl ⟨rfl, rfl⟩
  | 1, _, hl =>
    refine gl_aload_n dX2_means_0 rfl ?_
    refine gl_get (k := 1) dX2_means_1 hl (rfl : vwCl[3]? = some (RX3, TX3, 4)) in_X3 (by decide) q447 rfl ?_
    exact gl_iret dX2_means_4 rfl ⟨rfl, rfl⟩
  | 2, _, hl =>
    refine gl_aload_n dX2_means_0 rfl ?_
    refine gl_get (k := 1) dX2_means_1 hl (rfl : vwCl[4]? = some (RX4, TX4, 4)) in_X4 (by decide) q447 rfl ?_
    exact gl_iret dX2_means_4 rfl ⟨rfl, rfl⟩
  | 3, _, hl =>
    refine gl_aload_n dX2_means_0 rfl ?_
    refine gl_get (k := 1) dX2_means_1 hl (rfl : vwCl[5]? = some (RX5, TX5, 4)) in_X5 (by decide) q447 rfl ?_
    exact gl_iret dX2_means_4 rfl ⟨rfl, rfl⟩
  | 4, _, hl =>
    refine gl_aload_n dX2_means_0 rfl ?_
    refine gl_get (k := 1) dX2_means_1 hl (rfl : vwCl[6]? = some (RX6, TX6, 4)) in_X6 (by decide) q447 rfl ?_
    exact gl_iret dX2_means_4 rfl ⟨rfl, rfl⟩
  | 5, _, hl =>
    refine gl_aload_n dX2_means_0 rfl ?_
    refine gl_get (k := 1) dX2_means_1 hl (rfl : vwCl[7]? = some (RX7, TX7, 4)) in_X7 (by decide) q447 rfl ?_
    exact gl_iret dX2_means_4 rfl ⟨rfl, rfl⟩

