/-! cards: kinds, what they are, what they mean -/
set_option maxRecDepth 100000
theorem isO0 (v : Int32) : isOf 0 v = (v == 0) := by
  unfold isOf
  by_cases h : v = 0
  · simp [h]
  · simp [h, Ne.symm h]
theorem isO1 (v : Int32) : isOf 1 v = (v == 1 || isOf 0 v) := by
  rw [isO0]; unfold isOf
  by_cases h : v = 1
  · simp [h]
  · have a : (1 == v) = false := by simpa using Ne.symm h
    have b : (v == 1) = false := by simpa using h
    rw [a, b]
    cases (v == 0) <;> simp
theorem isO2 (v : Int32) : isOf 2 v = (v == 2 || isOf 0 v) := by
  rw [isO0]; unfold isOf
  by_cases h : v = 2
  · simp [h]
  · have a : (2 == v) = false := by simpa using Ne.symm h
    have b : (v == 2) = false := by simpa using h
    rw [a, b]
    cases (v == 0) <;> simp
theorem isO4 (v : Int32) : isOf 4 v = (v == 4 || isOf 0 v) := by
  rw [isO0]; unfold isOf
  by_cases h : v = 4
  · simp [h]
  · have a : (4 == v) = false := by simpa using Ne.symm h
    have b : (v == 4) = false := by simpa using h
    rw [a, b]
    cases (v == 0) <;> simp
theorem isO3 (v : Int32) : isOf 3 v = (v == 3 || isOf 1 v) := by
  rw [isO1, isO0]; unfold isOf
  by_cases h : v = 3
  · simp [h]
  · have a : (3 == v) = false := by simpa using Ne.symm h
    have b : (v == 3) = false := by simpa using h
    rw [a, b]
    cases (v == 0) <;> cases (v == 1) <;> cases (v == 2) <;> simp
theorem isO5 (v : Int32) : isOf 5 v = (v == 5 || isOf 2 v) := by
  rw [isO2, isO0]; unfold isOf
  by_cases h : v = 5
  · simp [h]
  · have a : (5 == v) = false := by simpa using Ne.symm h
    have b : (v == 5) = false := by simpa using h
    rw [a, b]
    cases (v == 0) <;> cases (v == 1) <;> cases (v == 2) <;> simp
theorem c_kind0 (L : Nat) (μ : Mem) (k : Nat) : Ct yX2_kind gX2_kind (L + 10) 0 0 [.ref k] μ (Rt (some (.int (nI 0))) μ) := by
  refine Ct.of rfl rfl rfl rfl rfl ?_
  refine gl_iconst (v := nI 0) dX2_kind_0 (by decide) ?_
  exact gl_iret dX2_kind_1 rfl ⟨rfl, rfl⟩
theorem c_kind1 (L : Nat) (μ : Mem) (k : Nat) : Ct yX3_kind gX3_kind (L + 10) 0 0 [.ref k] μ (Rt (some (.int (nI 1))) μ) := by
  refine Ct.of rfl rfl rfl rfl rfl ?_
  refine gl_iconst (v := nI 1) dX3_kind_0 (by decide) ?_
  exact gl_iret dX3_kind_1 rfl ⟨rfl, rfl⟩
theorem c_kind2 (L : Nat) (μ : Mem) (k : Nat) : Ct yX4_kind gX4_kind (L + 10) 0 0 [.ref k] μ (Rt (some (.int (nI 2))) μ) := by
  refine Ct.of rfl rfl rfl rfl rfl ?_
  refine gl_iconst (v := nI 2) dX4_kind_0 (by decide) ?_
  exact gl_iret dX4_kind_1 rfl ⟨rfl, rfl⟩
theorem c_kind3 (L : Nat) (μ : Mem) (k : Nat) : Ct yX5_kind gX5_kind (L + 10) 0 0 [.ref k] μ (Rt (some (.int (nI 3))) μ) := by
  refine Ct.of rfl rfl rfl rfl rfl ?_
  refine gl_iconst (v := nI 3) dX5_kind_0 (by decide) ?_
  exact gl_iret dX5_kind_1 rfl ⟨rfl, rfl⟩
theorem c_kind4 (L : Nat) (μ : Mem) (k : Nat) : Ct yX6_kind gX6_kind (L + 10) 0 0 [.ref k] μ (Rt (some (.int (nI 4))) μ) := by
  refine Ct.of rfl rfl rfl rfl rfl ?_
  refine gl_iconst (v := nI 4) dX6_kind_0 (by decide) ?_
  exact gl_iret dX6_kind_1 rfl ⟨rfl, rfl⟩
theorem c_kind5 (L : Nat) (μ : Mem) (k : Nat) : Ct yX7_kind gX7_kind (L + 10) 0 0 [.ref k] μ (Rt (some (.int (nI 5))) μ) := by
  refine Ct.of rfl rfl rfl rfl rfl ?_
  refine gl_iconst (v := nI 5) dX7_kind_0 (by decide) ?_
  exact gl_iret dX7_kind_1 rfl ⟨rfl, rfl⟩
theorem c_is0 (L : Nat) (μ : Mem) (k : Nat) (v : Int32) : Ct yX2_is gX2_is (L + 10) 0 0 [.ref k, .int v] μ (Rt (some (.int (bI (isOf 0 v)))) μ) := by
  refine Ct.of rfl rfl rfl rfl rfl ?_
  refine gl_iload_n dX2_is_0 rfl ?_
  refine gl_if_ne (tgt := 8) dX2_is_1 (by decide) (fun h1 => ?_) (fun h1 => ?_)
  · refine gl_iconst (v := nI 0) dX2_is_8 (by decide) ?_
    exact gl_zret dX2_is_9 rfl (by decide) ⟨by rw [isO0]; simp_all [bI], rfl⟩
  · refine gl_iconst (v := nI 1) dX2_is_4 (by decide) ?_
    refine gl_goto (tgt := 9) dX2_is_5 (by decide) ?_
    exact gl_zret dX2_is_9 rfl (by decide) ⟨by rw [isO0]; simp_all [bI], rfl⟩
theorem c_is1 (L : Nat) (μ : Mem) (k : Nat) {ci N : Nat} {C : String} {T : u_T} {fs : List Value} (hl : lk μ k = some (.inr (.inr (ci, fs)))) (hc : vwCl[ci]? = some (C, T, N)) (v : Int32) : Ct yX3_is gX3_is (L + 11) 0 0 [.ref k, .int v] μ (Rt (some (.int (bI (isOf 1 v)))) μ) := by
  refine Ct.of rfl rfl rfl rfl rfl ?_
  refine gl_iload_n dX3_is_0 rfl ?_
  refine gl_iconst (v := nI 1) dX3_is_1 (by decide) ?_
  refine gl_icmp_eq (tgt := 13) dX3_is_2 (by decide) (fun h2 => ?_) (fun h2 => ?_)
  · refine gl_iconst (v := nI 1) dX3_is_13 (by decide) ?_
    refine gl_goto (tgt := 18) dX3_is_14 (by decide) ?_
    exact gl_zret dX3_is_18 rfl (by decide) ⟨by rw [isO1, show v = 1 from h2]; rfl, rfl⟩
  · refine gl_aload_n dX3_is_5 rfl ?_
    refine gl_iload_n dX3_is_6 rfl ?_
    refine gl_callSU (c_is0 L μ k v) dX3_is_7 q650 q636 q461 q634 q86 q657 rfl ⟨by decide, hX2_is.2.2⟩ hl hc rfl rfl (rmOk (by omega) rfl) ⟨by first | exact Nat.le_refl _ | exact Nat.zero_le _ | decide | (dsimp only [rm]; omega), by first | exact Nat.le_refl _ | exact Nat.zero_le _ | decide | (dsimp only [rm]; omega)⟩ (rt1 ?_)
    have hz : (v == 1) = false := by simpa using (show ¬ v = 1 from h2)
    refine gl_if_eq (tgt := 17) dX3_is_10 (by decide) (fun h10 => ?_) (fun h10 => ?_)
    · refine gl_iconst (v := nI 0) dX3_is_17 (by decide) ?_
      exact gl_zret dX3_is_18 rfl (by decide) ⟨by rw [isO1, hz, bI_fa h10]; rfl, rfl⟩
    · refine gl_iconst (v := nI 1) dX3_is_13 (by decide) ?_
      refine gl_goto (tgt := 18) dX3_is_14 (by decide) ?_
      exact gl_zret dX3_is_18 rfl (by decide) ⟨by rw [isO1, hz, bI_tr h10]; rfl, rfl⟩
theorem c_is2 (L : Nat) (μ : Mem) (k : Nat) {ci N : Nat} {C : String} {T : u_T} {fs : List Value} (hl : lk μ k = some (.inr (.inr (ci, fs)))) (hc : vwCl[ci]? = some (C, T, N)) (v : Int32) : Ct yX4_is gX4_is (L + 11) 0 0 [.ref k, .int v] μ (Rt (some (.int (bI (isOf 2 v)))) μ) := by
  refine Ct.of rfl rfl rfl rfl rfl ?_
  refine gl_iload_n dX4_is_0 rfl ?_
  refine gl_iconst (v := nI 2) dX4_is_1 (by decide) ?_
  refine gl_icmp_eq (tgt := 13) dX4_is_2 (by decide) (fun h2 => ?_) (fun h2 => ?_)
  · refine gl_iconst (v := nI 1) dX4_is_13 (by decide) ?_
    refine gl_goto (tgt := 18) dX4_is_14 (by decide) ?_
    exact gl_zret dX4_is_18 rfl (by decide) ⟨by rw [isO2, show v = 2 from h2]; rfl, rfl⟩
  · refine gl_aload_n dX4_is_5 rfl ?_
    refine gl_iload_n dX4_is_6 rfl ?_
    refine gl_callSU (c_is0 L μ k v) dX4_is_7 q643 q636 q472 q634 q86 q657 rfl ⟨by decide, hX2_is.2.2⟩ hl hc rfl rfl (rmOk (by omega) rfl) ⟨by first | exact Nat.le_refl _ | exact Nat.zero_le _ | decide | (dsimp only [rm]; omega), by first | exact Nat.le_refl _ | exact Nat.zero_le _ | decide | (dsimp only [rm]; omega)⟩ (rt1 ?_)
    have hz : (v == 2) = false := by simpa using (show ¬ v = 2 from h2)
    refine gl_if_eq (tgt := 17) dX4_is_10 (by decide) (fun h10 => ?_) (fun h10 => ?_)
    · refine gl_iconst (v := nI 0) dX4_is_17 (by decide) ?_
      exact gl_zret dX4_is_18 rfl (by decide) ⟨by rw [isO2, hz, bI_fa h10]; rfl, rfl⟩
    · refine gl_iconst (v := nI 1) dX4_is_13 (by decide) ?_
      refine gl_goto (tgt := 18) dX4_is_14 (by decide) ?_
      exact gl_zret dX4_is_18 rfl (by decide) ⟨by rw [isO2, hz, bI_tr h10]; rfl, rfl⟩
theorem c_is4 (L : Nat) (μ : Mem) (k : Nat) {ci N : Nat} {C : String} {T : u_T} {fs : List Value} (hl : lk μ k = some (.inr (.inr (ci, fs)))) (hc : vwCl[ci]? = some (C, T, N)) (v : Int32) : Ct yX6_is gX6_is (L + 11) 0 0 [.ref k, .int v] μ (Rt (some (.int (bI (isOf 4 v)))) μ) := by
  refine Ct.of rfl rfl rfl rfl rfl ?_
  refine gl_iload_n dX6_is_0 rfl ?_
  refine gl_iconst (v := nI 4) dX6_is_1 (by decide) ?_
  refine gl_icmp_eq (tgt := 13) dX6_is_2 (by decide) (fun h2 => ?_) (fun h2 => ?_)
  · refine gl_iconst (v := nI 1) dX6_is_13 (by decide) ?_
    refine gl_goto (tgt := 18) dX6_is_14 (by decide) ?_
    exact gl_zret dX6_is_18 rfl (by decide) ⟨by rw [isO4, show v = 4 from h2]; rfl, rfl⟩
  · refine gl_aload_n dX6_is_5 rfl ?_
    refine gl_iload_n dX6_is_6 rfl ?_
    refine gl_callSU (c_is0 L μ k v) dX6_is_7 q655 q636 q494 q634 q86 q657 rfl ⟨by decide, hX2_is.2.2⟩ hl hc rfl rfl (rmOk (by omega) rfl) ⟨by first | exact Nat.le_refl _ | exact Nat.zero_le _ | decide | (dsimp only [rm]; omega), by first | exact Nat.le_refl _ | exact Nat.zero_le _ | decide | (dsimp only [rm]; omega)⟩ (rt1 ?_)
    have hz : (v == 4) = false := by simpa using (show ¬ v = 4 from h2)
    refine gl_if_eq (tgt := 17) dX6_is_10 (by decide) (fun h10 => ?_) (fun h10 => ?_)
    · refine gl_iconst (v := nI 0) dX6_is_17 (by decide) ?_
      exact gl_zret dX6_is_18 rfl (by decide) ⟨by rw [isO4, hz, bI_fa h10]; rfl, rfl⟩
    · refine gl_iconst (v := nI 1) dX6_is_13 (by decide) ?_
      refine gl_goto (tgt := 18) dX6_is_14 (by decide) ?_
      exact gl_zret dX6_is_18 rfl (by decide) ⟨by rw [isO4, hz, bI_tr h10]; rfl, rfl⟩
theorem c_is3 (L : Nat) (μ : Mem) (k : Nat) {ci N : Nat} {C : String} {T : u_T} {fs : List Value} (hl : lk μ k = some (.inr (.inr (ci, fs)))) (hc : vwCl[ci]? = some (C, T, N)) (v : Int32) : Ct yX5_is gX5_is (L + 12) 0 0 [.ref k, .int v] μ (Rt (some (.int (bI (isOf 3 v)))) μ) := by
  refine Ct.of rfl rfl rfl rfl rfl ?_
  refine gl_iload_n dX5_is_0 rfl ?_
  refine gl_iconst (v := nI 3) dX5_is_1 (by decide) ?_
  refine gl_icmp_eq (tgt := 13) dX5_is_2 (by decide) (fun h2 => ?_) (fun h2 => ?_)
  · refine gl_iconst (v := nI 1) dX5_is_13 (by decide) ?_
    refine gl_goto (tgt := 18) dX5_is_14 (by decide) ?_
    exact gl_zret dX5_is_18 rfl (by decide) ⟨by rw [isO3, show v = 3 from h2]; rfl, rfl⟩
  · refine gl_aload_n dX5_is_5 rfl ?_
    refine gl_iload_n dX5_is_6 rfl ?_
    refine gl_callSU (c_is1 L μ k hl hc v) dX5_is_7 q647 q1438 q483 q648 q87 q649 rfl ⟨by decide, hX3_is.2.2⟩ hl hc rfl rfl (rmOk (by omega) rfl) ⟨by first | exact Nat.le_refl _ | exact Nat.zero_le _ | decide | (dsimp only [rm]; omega), by first | exact Nat.le_refl _ | exact Nat.zero_le _ | decide | (dsimp only [rm]; omega)⟩ (rt1 ?_)
    have hz : (v == 3) = false := by simpa using (show ¬ v = 3 from h2)
    refine gl_if_eq (tgt := 17) dX5_is_10 (by decide) (fun h10 => ?_) (fun h10 => ?_)
    · refine gl_iconst (v := nI 0) dX5_is_17 (by decide) ?_
      exact gl_zret dX5_is_18 rfl (by decide) ⟨by rw [isO3, hz, bI_fa h10]; rfl, rfl⟩
    · refine gl_iconst (v := nI 1) dX5_is_13 (by decide) ?_
      refine gl_goto (tgt := 18) dX5_is_14 (by decide) ?_
      exact gl_zret dX5_is_18 rfl (by decide) ⟨by rw [isO3, hz, bI_tr h10]; rfl, rfl⟩
theorem c_is5 (L : Nat) (μ : Mem) (k : Nat) {ci N : Nat} {C : String} {T : u_T} {fs : List Value} (hl : lk μ k = some (.inr (.inr (ci, fs)))) (hc : vwCl[ci]? = some (C, T, N)) (v : Int32) : Ct yX7_is gX7_is (L + 12) 0 0 [.ref k, .int v] μ (Rt (some (.int (bI (isOf 5 v)))) μ) := by
  refine Ct.of rfl rfl rfl rfl rfl ?_
  refine gl_iload_n dX7_is_0 rfl ?_
  refine gl_iconst (v := nI 5) dX7_is_1 (by decide) ?_
  refine gl_icmp_eq (tgt := 13) dX7_is_2 (by decide) (fun h2 => ?_) (fun h2 => ?_)
  · refine gl_iconst (v := nI 1) dX7_is_13 (by decide) ?_
    refine gl_goto (tgt := 18) dX7_is_14 (by decide) ?_
    exact gl_zret dX7_is_18 rfl (by decide) ⟨by rw [isO5, show v = 5 from h2]; rfl, rfl⟩
  · refine gl_aload_n dX7_is_5 rfl ?_
    refine gl_iload_n dX7_is_6 rfl ?_
    refine gl_callSU (c_is2 L μ k hl hc v) dX7_is_7 q640 q1437 q505 q641 q88 q642 rfl ⟨by decide, hX4_is.2.2⟩ hl hc rfl rfl (rmOk (by omega) rfl) ⟨by first | exact Nat.le_refl _ | exact Nat.zero_le _ | decide | (dsimp only [rm]; omega), by first | exact Nat.le_refl _ | exact Nat.zero_le _ | decide | (dsimp only [rm]; omega)⟩ (rt1 ?_)
    have hz : (v == 5) = false := by simpa using (show ¬ v = 5 from h2)
    refine gl_if_eq (tgt := 17) dX7_is_10 (by decide) (fun h10 => ?_) (fun h10 => ?_)
    · refine gl_iconst (v := nI 0) dX7_is_17 (by decide) ?_
      exact gl_zret dX7_is_18 rfl (by decide) ⟨by rw [isO5, hz, bI_fa h10]; rfl, rfl⟩
    · refine gl_iconst (v := nI 1) dX7_is_13 (by decide) ?_
      refine gl_goto (tgt := 18) dX7_is_14 (by decide) ?_
      exact gl_zret dX7_is_18 rfl (by decide) ⟨by rw [isO5, hz, bI_tr h10]; rfl, rfl⟩

