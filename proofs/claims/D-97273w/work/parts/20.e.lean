/-! the model's rows and texts -/
set_option maxRecDepth 100000
/-- sizes: -1 (nothing there) or up to N -/
def szs (f : Nat → Int32) (R N : Nat) : Prop := ∀ r, r < R → f r = -1 ∨ ∃ k, k ≤ N ∧ f r = nI k
def fillI (f : Nat → Int32) (a : Nat) (v : Int32) (k : Nat) : Nat → Int32 := fun p => if a ≤ p ∧ p < a + k then v else f p
theorem fill_0 (f : Nat → Int32) (a : Nat) (v : Int32) : fillI f a v 0 = f := by
  funext p
  simp only [fillI]
  rw [if_neg (by omega)]
theorem fill_s (f : Nat → Int32) (a : Nat) (v : Int32) (k : Nat) : upd (fillI f a v k) (a + k) v = fillI f a v (k + 1) := by
  funext p
  simp only [fillI, upd]
  by_cases h : p = a + k
  · rw [if_pos h, if_pos (by omega)]
  · rw [if_neg h]
    by_cases h2 : a ≤ p ∧ p < a + k
    · rw [if_pos h2, if_pos (by omega)]
    · rw [if_neg h2, if_neg (by omega)]
theorem cpy_0 {α : Type} (f g : Nat → α) (i j : Nat) : va_cpy f g i j 0 = g := by
  funext p
  exact pk_cpy_out (by omega)
theorem cpy_s (f g : Nat → Int32) (i j k : Nat) : upd (va_cpy f g i j k) (j + k) (f (i + k)) = va_cpy f g i j (k + 1) := by
  funext p
  simp only [va_cpy, upd]
  by_cases h : p = j + k
  · rw [if_pos h, if_pos (by omega), h]
    congr 1
    omega
  · rw [if_neg h]
    by_cases h2 : j ≤ p ∧ p < j + k
    · rw [if_pos h2, if_pos (by omega)]
    · rw [if_neg h2, if_neg (by omega)]
/-- from behind -/
theorem cpy_b (f g : Nat → Int32) (i j k n : Nat) (h : k < n) : upd (va_cpy f g (i + (n - k)) (j + (n - k)) k) (j + (n - 1 - k)) (f (i + (n - 1 - k))) = va_cpy f g (i + (n - (k + 1))) (j + (n - (k + 1))) (k + 1) := by
  funext p
  simp only [va_cpy, upd]
  by_cases h0 : p = j + (n - 1 - k)
  · rw [if_pos h0, if_pos (by omega), h0]
    congr 1
    omega
  · rw [if_neg h0]
    by_cases h2 : j + (n - k) ≤ p ∧ p < j + (n - k) + k
    · rw [if_pos h2, if_pos (by omega)]
      congr 1
      omega
    · rw [if_neg h2, if_neg (by omega)]
theorem nI_sub {a b : Nat} (h : b ≤ a) : nI a - nI b = nI (a - b) := by
  have e : nI (a - b) + nI b = nI a := by rw [nI_add]; congr 1; omega
  rw [← e]
  exact Int32.add_sub_cancel _ _
theorem nI_neg1 : (nI 0 - 1 : Int32) = -1 := by decide
theorem sz_lt {f : Nat → Int32} {R N r : Nat} (hN : N < 2 ^ 31) (h : szs f R N) (hr : r < R) (hl : ¬ f r < 0) : ∃ k, k ≤ N ∧ f r = nI k := by
  rcases h r hr with e | e
  · rw [e] at hl; exact absurd (by decide) hl
  · exact e
theorem sz_neg {f : Nat → Int32} {R N r : Nat} (hN : N < 2 ^ 31) (h : szs f R N) (hr : r < R) (hl : f r < 0) : f r = -1 := by
  rcases h r hr with e | ⟨k, hk, e⟩
  · exact e
  · rw [e] at hl; exact absurd hl (nI_pos (by omega))
section MR
variable (L : Nat) (o : OY) (y : MY) {n m t : Nat}
def sp_row (y : MY) (r n : Int32) : Int32 × MY := if !(inR r 0 5) || decide (40 < n) then (-1, y) else if n < 0 then sfnd y 5 else (n, sA (sA y 19 (upd (y.2.2 19) (ix r) n)) 20 (fillI (y.2.2 20) (40 * ix r) 0 40))
theorem m_row (r n : Int32) : Ct yX1_row gX1_row (L + 12) 0 0 [.ref 18, .int r, .int n] (mM o y) (RtP o (sp_row y r n)) := by
  refine Ct.of rfl rfl rfl rfl rfl ?_
  refine gl_iload_n dX1_row_0 rfl ?_
  refine gl_callS (m_isRow L _ _) dX1_row_1 q1089 q1090 q75 q1091 rfl hX1_isRow rfl rfl (rmOk (by omega) rfl) ⟨by first | exact Nat.le_refl _ | exact Nat.zero_le _ | decide | (dsimp only [rm]; omega), by first | exact Nat.le_refl _ | exact Nat.zero_le _ | decide | (dsimp only [rm]; omega)⟩ (rt1 ?_)
  refine gl_if_eq (tgt := 13) dX1_row_4 (by decide) (fun h4 => ?_) (fun h4 => ?_)
  · rw [show sp_row y r n = (-1, y) by simp_all [sp_row, bI_ne]]
    refine gl_iconst (v := (-1)) dX1_row_13 (by decide) ?_
    exact gl_iret dX1_row_14 rfl ⟨rfl, rfl⟩
  · have hr := bI_tr h4
    refine gl_iload_n dX1_row_7 rfl ?_
    refine gl_bipush (v := nI 40) dX1_row_8 (by decide) ?_
    refine gl_icmp_le (tgt := 15) dX1_row_10 (by decide) (fun h10 => ?_) (fun h10 => ?_)
    · have h10' : ¬ 40 < n := k2_nlt h10
      refine gl_iload_n dX1_row_15 rfl ?_
      refine gl_if_ge (tgt := 25) dX1_row_16 (by decide) (fun h16 => ?_) (fun h16 => ?_)
      · have h16' : ¬ n < 0 := k2_nlt h16
        rw [show sp_row y r n = (n, sA (sA y 19 (upd (y.2.2 19) (ix r) n)) 20 (fillI (y.2.2 20) (40 * ix r) 0 40)) by unfold sp_row; rw [if_neg (by simp [hr, h10']), if_neg h16']]
        obtain ⟨k, -, hk, rfl⟩ := inR_nat (a := 0) (b := 5) (by omega) (by omega) hr
        rw [ix_nI (show k < 100 by omega)]
        refine gl_aload_n dX1_row_25 rfl ?_
        refine gl_get (k := 0) dX1_row_26 rfl (rfl : vwCl[1]? = some (RX1, TX1, 21)) in_X1 (by decide) q1020 rfl ?_
        refine gl_iload_n dX1_row_29 rfl ?_
        refine gl_iload_n dX1_row_30 rfl ?_
        refine gl_iast (j := k) dX1_row_31 rfl rfl (by omega) ?_
        refine gl_iconst (v := nI 0) dX1_row_32 (by decide) ?_
        refine gl_istore_n dX1_row_33 rfl rfl ?_
        refine gl_mem (μ1 := mM o (sA (sA y 19 (upd (y.2.2 19) k n)) 20 (fillI (y.2.2 20) (40 * k) 0 0))) (by rw [fill_0]; rfl) ?_
        refine gl_loop (fun i => [some (.ref 18), some (.int (nI k)), some (.int n), some (.int (nI i))]) (fun i => mM o (sA (sA y 19 (upd (y.2.2 19) k n)) 20 (fillI (y.2.2 20) (40 * k) 0 i))) 40 ?_ ?_
        · intro i hi ih
          refine gl_iload_n dX1_row_34 rfl ?_
          refine gl_bipush (v := nI 40) dX1_row_35 (by decide) ?_
          refine gl_icmp_ge (tgt := 58) dX1_row_37 (by decide) (fun h => absurd h (nI_ge hi (by omega))) (fun _ => ?_)
          refine gl_aload_n dX1_row_40 rfl ?_
          refine gl_get (k := 1) dX1_row_41 rfl (rfl : vwCl[1]? = some (RX1, TX1, 21)) in_X1 (by decide) q1021 rfl ?_
          refine gl_bipush (v := nI 40) dX1_row_44 (by decide) ?_
          refine gl_iload_n dX1_row_46 rfl ?_
          refine gl_imul dX1_row_47 ?_
          refine gl_iload_n dX1_row_48 rfl ?_
          refine gl_iadd dX1_row_49 ?_
          refine gl_iconst (v := nI 0) dX1_row_50 (by decide) ?_
          refine gl_iast (j := ((40 * k) + i)) dX1_row_51 rfl (by simp only [nI_add, nI_mul]) (by omega) ?_
          refine gl_mem (μ1 := mM o (sA (sA y 19 (upd (y.2.2 19) k n)) 20 (fillI (y.2.2 20) (40 * k) 0 (i + 1)))) (by rw [← fill_s]; rfl) ?_
          refine gl_iinc (v := (nI (i + 1))) dX1_row_52 rfl (nI_1 _) rfl rfl ?_
          refine gl_goto (tgt := 34) dX1_row_55 (by decide) ?_
          exact ih
        · refine gl_iload_n dX1_row_34 rfl ?_
          refine gl_bipush (v := nI 40) dX1_row_35 (by decide) ?_
          refine gl_icmp_ge (tgt := 58) dX1_row_37 (by decide) (fun _ => ?_) (fun h => absurd (nI_le (Nat.le_refl _) (by omega)) h)
          refine gl_iload_n dX1_row_58 rfl ?_
          exact gl_iret dX1_row_59 rfl ⟨rfl, rfl⟩
      · rw [show sp_row y r n = sfnd y 5 by unfold sp_row; rw [if_neg (by simp [hr, h10']), if_pos (k2_lt h16)]]
        refine gl_aload_n dX1_row_19 rfl ?_
        refine gl_iconst (v := nI 5) dX1_row_20 (by decide) ?_
        refine gl_callV (m_found L o y (5) (by omega)) dX1_row_21 q1096 q1098 qs44 q75 q1099 rfl hX1_found rfl (rfl : vwCl[1]? = some (RX1, TX1, 21)) rfl rfl (rmOk (by omega) rfl) ⟨by first | exact Nat.le_refl _ | exact Nat.zero_le _ | decide | (dsimp only [rm]; omega), by first | exact Nat.le_refl _ | exact Nat.zero_le _ | decide | (dsimp only [rm]; omega)⟩ (rt1 ?_)
        exact gl_iret dX1_row_24 rfl ⟨rfl, rfl⟩
    · have h10' : 40 < n := k2_lt h10
      rw [show sp_row y r n = (-1, y) by unfold sp_row; rw [if_pos (by simp [h10'])]]
      refine gl_iconst (v := (-1)) dX1_row_13 (by decide) ?_
      exact gl_iret dX1_row_14 rfl ⟨rfl, rfl⟩
def sp_at (y : MY) (r i : Int32) : Int32 × MY := if inR r 0 5 then (if y.2.2 19 (ix r) < 0 then sfnd y 1 else if inR i 0 (y.2.2 19 (ix r) - 1) then sask y (y.2.2 20 (40 * ix r + ix i)) else sfnd y 2) else (-1, y)
theorem m_at (hS : szs (y.2.2 19) 6 40) (r i : Int32) : Ct yX1_at gX1_at (L + 12) 0 0 [.ref 18, .int r, .int i] (mM o y) (RtP o (sp_at y r i)) := by
  refine Ct.of rfl rfl rfl rfl rfl ?_
  refine gl_iload_n dX1_at_0 rfl ?_
  refine gl_callS (m_isRow L _ _) dX1_at_1 q1089 q1090 q75 q1091 rfl hX1_isRow rfl rfl (rmOk (by omega) rfl) ⟨by first | exact Nat.le_refl _ | exact Nat.zero_le _ | decide | (dsimp only [rm]; omega), by first | exact Nat.le_refl _ | exact Nat.zero_le _ | decide | (dsimp only [rm]; omega)⟩ (rt1 ?_)
  refine gl_if_ne (tgt := 9) dX1_at_4 (by decide) (fun h4 => ?_) (fun h4 => ?_)
  · have hr := bI_tr h4
    obtain ⟨k, -, hk, rfl⟩ := inR_nat (a := 0) (b := 5) (by omega) (by omega) hr
    unfold sp_at
    rw [if_pos hr, ix_nI (show k < 100 by omega)]
    refine gl_aload_n dX1_at_9 rfl ?_
    refine gl_get (k := 0) dX1_at_10 rfl (rfl : vwCl[1]? = some (RX1, TX1, 21)) in_X1 (by decide) q1020 rfl ?_
    refine gl_iload_n dX1_at_13 rfl ?_
    refine gl_iald (j := k) dX1_at_14 rfl rfl (by omega) ?_
    refine gl_if_ge (tgt := 24) dX1_at_15 (by decide) (fun h15 => ?_) (fun h15 => ?_)
    · rw [if_neg (k2_nlt h15)]
      obtain ⟨s, hs, e⟩ := sz_lt (by omega) hS (show k < 6 by omega) (k2_nlt h15)
      refine gl_iload_n dX1_at_24 rfl ?_
      refine gl_i2l dX1_at_25 ?_
      refine gl_lconst (v := 0) dX1_at_26 (by decide) ?_
      refine gl_aload_n dX1_at_27 rfl ?_
      refine gl_get (k := 0) dX1_at_28 rfl (rfl : vwCl[1]? = some (RX1, TX1, 21)) in_X1 (by decide) q1020 rfl ?_
      refine gl_iload_n dX1_at_31 rfl ?_
      refine gl_iald (j := k) dX1_at_32 rfl rfl (by omega) ?_
      refine gl_iconst (v := nI 1) dX1_at_33 (by decide) ?_
      refine gl_isub dX1_at_34 ?_
      refine gl_i2l dX1_at_35 ?_
      refine gl_callS (m_in_i L (mM o y) _ 0 (y.2.2 19 k - 1) rfl rfl) dX1_at_36 q1093 q1094 q75 q1095 rfl hX1_in rfl rfl (rmOk (by omega) rfl) ⟨by first | exact Nat.le_refl _ | exact Nat.zero_le _ | decide | (dsimp only [rm]; omega), by first | exact Nat.le_refl _ | exact Nat.zero_le _ | decide | (dsimp only [rm]; omega)⟩ (rt1 ?_)
      refine gl_if_eq (tgt := 60) dX1_at_39 (by decide) (fun h39 => ?_) (fun h39 => ?_)
      · rw [if_neg (by simp [bI_fa h39])]
        refine gl_aload_n dX1_at_60 rfl ?_
        refine gl_iconst (v := nI 2) dX1_at_61 (by decide) ?_
        refine gl_callV (m_found L o y (2) (by omega)) dX1_at_62 q1096 q1098 qs44 q75 q1099 rfl hX1_found rfl (rfl : vwCl[1]? = some (RX1, TX1, 21)) rfl rfl (rmOk (by omega) rfl) ⟨by first | exact Nat.le_refl _ | exact Nat.zero_le _ | decide | (dsimp only [rm]; omega), by first | exact Nat.le_refl _ | exact Nat.zero_le _ | decide | (dsimp only [rm]; omega)⟩ (rt1 ?_)
        exact gl_iret dX1_at_65 rfl ⟨rfl, rfl⟩
      · have hi := bI_tr h39
        rw [if_pos hi]
        rw [e] at hi
        obtain ⟨j, hj, rfl⟩ := inR_n (by omega) hi
        rw [ix_nI (show j < 100 by omega)]
        refine gl_aload_n dX1_at_42 rfl ?_
        refine gl_aload_n dX1_at_43 rfl ?_
        refine gl_get (k := 1) dX1_at_44 rfl (rfl : vwCl[1]? = some (RX1, TX1, 21)) in_X1 (by decide) q1021 rfl ?_
        refine gl_bipush (v := nI 40) dX1_at_47 (by decide) ?_
        refine gl_iload_n dX1_at_49 rfl ?_
        refine gl_imul dX1_at_50 ?_
        refine gl_iload_n dX1_at_51 rfl ?_
        refine gl_iadd dX1_at_52 ?_
        refine gl_iald (j := ((40 * k) + j)) dX1_at_53 rfl (by simp only [nI_add, nI_mul]) (by omega) ?_
        refine gl_callV (m_tell L o y _) dX1_at_54 q1104 q1106 qs45 q75 q1107 rfl hX1_tell rfl (rfl : vwCl[1]? = some (RX1, TX1, 21)) rfl rfl (rmOk (by omega) rfl) ⟨by first | exact Nat.le_refl _ | exact Nat.zero_le _ | decide | (dsimp only [rm]; omega), by first | exact Nat.le_refl _ | exact Nat.zero_le _ | decide | (dsimp only [rm]; omega)⟩ (rt1 ?_)
        refine gl_goto (tgt := 65) dX1_at_57 (by decide) ?_
        exact gl_iret dX1_at_65 rfl ⟨rfl, rfl⟩
    · rw [if_pos (k2_lt h15)]
      refine gl_aload_n dX1_at_18 rfl ?_
      refine gl_iconst (v := nI 1) dX1_at_19 (by decide) ?_
      refine gl_callV (m_found L o y (1) (by omega)) dX1_at_20 q1096 q1098 qs44 q75 q1099 rfl hX1_found rfl (rfl : vwCl[1]? = some (RX1, TX1, 21)) rfl rfl (rmOk (by omega) rfl) ⟨by first | exact Nat.le_refl _ | exact Nat.zero_le _ | decide | (dsimp only [rm]; omega), by first | exact Nat.le_refl _ | exact Nat.zero_le _ | decide | (dsimp only [rm]; omega)⟩ (rt1 ?_)
      exact gl_iret dX1_at_23 rfl ⟨rfl, rfl⟩
  · unfold sp_at
    rw [if_neg (by simp [bI_fa h4])]
    refine gl_iconst (v := (-1)) dX1_at_7 (by decide) ?_
    exact gl_iret dX1_at_8 rfl ⟨rfl, rfl⟩
def sp_lay (y : MY) (r i v : Int32) : Int32 × MY := if inR r 0 5 then (if y.2.2 19 (ix r) < 0 then sfnd y 1 else if inR i 0 (y.2.2 19 (ix r) - 1) then sask (sA y 20 (upd (y.2.2 20) (40 * ix r + ix i) v)) (y.2.2 20 (40 * ix r + ix i)) else sfnd y 2) else (-1, y)
theorem m_lay (hS : szs (y.2.2 19) 6 40) (r i v : Int32) : Ct yX1_lay gX1_lay (L + 12) 0 0 [.ref 18, .int r, .int i, .int v] (mM o y) (RtP o (sp_lay y r i v)) := by
  refine Ct.of rfl rfl rfl rfl rfl ?_
  refine gl_iload_n dX1_lay_0 rfl ?_
  refine gl_callS (m_isRow L _ _) dX1_lay_1 q1089 q1090 q75 q1091 rfl hX1_isRow rfl rfl (rmOk (by omega) rfl) ⟨by first | exact Nat.le_refl _ | exact Nat.zero_le _ | decide | (dsimp only [rm]; omega), by first | exact Nat.le_refl _ | exact Nat.zero_le _ | decide | (dsimp only [rm]; omega)⟩ (rt1 ?_)
  refine gl_if_ne (tgt := 9) dX1_lay_4 (by decide) (fun h4 => ?_) (fun h4 => ?_)
  · have hr := bI_tr h4
    obtain ⟨k, -, hk, rfl⟩ := inR_nat (a := 0) (b := 5) (by omega) (by omega) hr
    unfold sp_lay
    rw [if_pos hr, ix_nI (show k < 100 by omega)]
    refine gl_aload_n dX1_lay_9 rfl ?_
    refine gl_get (k := 0) dX1_lay_10 rfl (rfl : vwCl[1]? = some (RX1, TX1, 21)) in_X1 (by decide) q1020 rfl ?_
    refine gl_iload_n dX1_lay_13 rfl ?_
    refine gl_iald (j := k) dX1_lay_14 rfl rfl (by omega) ?_
    refine gl_if_ge (tgt := 24) dX1_lay_15 (by decide) (fun h15 => ?_) (fun h15 => ?_)
    · rw [if_neg (k2_nlt h15)]
      obtain ⟨s, hs, e⟩ := sz_lt (by omega) hS (show k < 6 by omega) (k2_nlt h15)
      refine gl_iload_n dX1_lay_24 rfl ?_
      refine gl_i2l dX1_lay_25 ?_
      refine gl_lconst (v := 0) dX1_lay_26 (by decide) ?_
      refine gl_aload_n dX1_lay_27 rfl ?_
      refine gl_get (k := 0) dX1_lay_28 rfl (rfl : vwCl[1]? = some (RX1, TX1, 21)) in_X1 (by decide) q1020 rfl ?_
      refine gl_iload_n dX1_lay_31 rfl ?_
      refine gl_iald (j := k) dX1_lay_32 rfl rfl (by omega) ?_
      refine gl_iconst (v := nI 1) dX1_lay_33 (by decide) ?_
      refine gl_isub dX1_lay_34 ?_
      refine gl_i2l dX1_lay_35 ?_
      refine gl_callS (m_in_i L (mM o y) _ 0 (y.2.2 19 k - 1) rfl rfl) dX1_lay_36 q1093 q1094 q75 q1095 rfl hX1_in rfl rfl (rmOk (by omega) rfl) ⟨by first | exact Nat.le_refl _ | exact Nat.zero_le _ | decide | (dsimp only [rm]; omega), by first | exact Nat.le_refl _ | exact Nat.zero_le _ | decide | (dsimp only [rm]; omega)⟩ (rt1 ?_)
      refine gl_if_ne (tgt := 48) dX1_lay_39 (by decide) (fun h39 => ?_) (fun h39 => ?_)
      · have hi := bI_tr h39
        rw [if_pos hi]
        rw [e] at hi
        obtain ⟨j, hj, rfl⟩ := inR_n (by omega) hi
        rw [ix_nI (show j < 100 by omega)]
        refine gl_aload_n dX1_lay_48 rfl ?_
        refine gl_get (k := 1) dX1_lay_49 rfl (rfl : vwCl[1]? = some (RX1, TX1, 21)) in_X1 (by decide) q1021 rfl ?_
        refine gl_bipush (v := nI 40) dX1_lay_52 (by decide) ?_
        refine gl_iload_n dX1_lay_54 rfl ?_
        refine gl_imul dX1_lay_55 ?_
        refine gl_iload_n dX1_lay_56 rfl ?_
        refine gl_iadd dX1_lay_57 ?_
        refine gl_iald (j := ((40 * k) + j)) dX1_lay_58 rfl (by simp only [nI_add, nI_mul]) (by omega) ?_
        refine gl_istore dX1_lay_59 rfl rfl ?_
        refine gl_aload_n dX1_lay_61 rfl ?_
        refine gl_get (k := 1) dX1_lay_62 rfl (rfl : vwCl[1]? = some (RX1, TX1, 21)) in_X1 (by decide) q1021 rfl ?_
        refine gl_bipush (v := nI 40) dX1_lay_65 (by decide) ?_
        refine gl_iload_n dX1_lay_67 rfl ?_
        refine gl_imul dX1_lay_68 ?_
        refine gl_iload_n dX1_lay_69 rfl ?_
        refine gl_iadd dX1_lay_70 ?_
        refine gl_iload_n dX1_lay_71 rfl ?_
        refine gl_iast (j := ((40 * k) + j)) dX1_lay_72 rfl (by simp only [nI_add, nI_mul]) (by omega) ?_
        refine gl_mem (μ1 := mM o (sA y 20 (upd (y.2.2 20) (40 * k + j) v))) rfl ?_
        refine gl_aload_n dX1_lay_73 rfl ?_
        refine gl_iload dX1_lay_74 rfl ?_
        refine gl_callV (m_tell L o (sA y 20 (upd (y.2.2 20) (40 * k + j) v)) _) dX1_lay_76 q1104 q1106 qs45 q75 q1107 rfl hX1_tell rfl (rfl : vwCl[1]? = some (RX1, TX1, 21)) rfl rfl (rmOk (by omega) rfl) ⟨by first | exact Nat.le_refl _ | exact Nat.zero_le _ | decide | (dsimp only [rm]; omega), by first | exact Nat.le_refl _ | exact Nat.zero_le _ | decide | (dsimp only [rm]; omega)⟩ (rt1 ?_)
        exact gl_iret dX1_lay_79 rfl ⟨rfl, rfl⟩
      · rw [if_neg (by simp [bI_fa h39])]
        refine gl_aload_n dX1_lay_42 rfl ?_
        refine gl_iconst (v := nI 2) dX1_lay_43 (by decide) ?_
        refine gl_callV (m_found L o y (2) (by omega)) dX1_lay_44 q1096 q1098 qs44 q75 q1099 rfl hX1_found rfl (rfl : vwCl[1]? = some (RX1, TX1, 21)) rfl rfl (rmOk (by omega) rfl) ⟨by first | exact Nat.le_refl _ | exact Nat.zero_le _ | decide | (dsimp only [rm]; omega), by first | exact Nat.le_refl _ | exact Nat.zero_le _ | decide | (dsimp only [rm]; omega)⟩ (rt1 ?_)
        exact gl_iret dX1_lay_47 rfl ⟨rfl, rfl⟩
    · rw [if_pos (k2_lt h15)]
      refine gl_aload_n dX1_lay_18 rfl ?_
      refine gl_iconst (v := nI 1) dX1_lay_19 (by decide) ?_
      refine gl_callV (m_found L o y (1) (by omega)) dX1_lay_20 q1096 q1098 qs44 q75 q1099 rfl hX1_found rfl (rfl : vwCl[1]? = some (RX1, TX1, 21)) rfl rfl (rmOk (by omega) rfl) ⟨by first | exact Nat.le_refl _ | exact Nat.zero_le _ | decide | (dsimp only [rm]; omega), by first | exact Nat.le_refl _ | exact Nat.zero_le _ | decide | (dsimp only [rm]; omega)⟩ (rt1 ?_)
      exact gl_iret dX1_lay_23 rfl ⟨rfl, rfl⟩
  · unfold sp_lay
    rw [if_neg (by simp [bI_fa h4])]
    refine gl_iconst (v := (-1)) dX1_lay_7 (by decide) ?_
    exact gl_iret dX1_lay_8 rfl ⟨rfl, rfl⟩
def sp_tear (y : MY) (r : Int32) : Int32 × MY := if inR r 0 5 then (if y.2.2 19 (ix r) < 0 then sfnd y 1 else (nI 1, sA y 19 (upd (y.2.2 19) (ix r) (-1)))) else (-1, y)
theorem m_tear (r : Int32) : Ct yX1_tear gX1_tear (L + 12) 0 0 [.ref 18, .int r] (mM o y) (RtP o (sp_tear y r)) := by
  refine Ct.of rfl rfl rfl rfl rfl ?_
  refine gl_iload_n dX1_tear_0 rfl ?_
  refine gl_callS (m_isRow L _ _) dX1_tear_1 q1089 q1090 q75 q1091 rfl hX1_isRow rfl rfl (rmOk (by omega) rfl) ⟨by first | exact Nat.le_refl _ | exact Nat.zero_le _ | decide | (dsimp only [rm]; omega), by first | exact Nat.le_refl _ | exact Nat.zero_le _ | decide | (dsimp only [rm]; omega)⟩ (rt1 ?_)
  refine gl_if_ne (tgt := 9) dX1_tear_4 (by decide) (fun h4 => ?_) (fun h4 => ?_)
  · have hr := bI_tr h4
    obtain ⟨k, -, hk, rfl⟩ := inR_nat (a := 0) (b := 5) (by omega) (by omega) hr
    unfold sp_tear
    rw [if_pos hr, ix_nI (show k < 100 by omega)]
    refine gl_aload_n dX1_tear_9 rfl ?_
    refine gl_get (k := 0) dX1_tear_10 rfl (rfl : vwCl[1]? = some (RX1, TX1, 21)) in_X1 (by decide) q1020 rfl ?_
    refine gl_iload_n dX1_tear_13 rfl ?_
    refine gl_iald (j := k) dX1_tear_14 rfl rfl (by omega) ?_
    refine gl_if_ge (tgt := 24) dX1_tear_15 (by decide) (fun h15 => ?_) (fun h15 => ?_)
    · rw [if_neg (k2_nlt h15)]
      refine gl_aload_n dX1_tear_24 rfl ?_
      refine gl_get (k := 0) dX1_tear_25 rfl (rfl : vwCl[1]? = some (RX1, TX1, 21)) in_X1 (by decide) q1020 rfl ?_
      refine gl_iload_n dX1_tear_28 rfl ?_
      refine gl_iconst (v := (-1)) dX1_tear_29 (by decide) ?_
      refine gl_iast (j := k) dX1_tear_30 rfl rfl (by omega) ?_
      refine gl_iconst (v := nI 1) dX1_tear_31 (by decide) ?_
      exact gl_iret dX1_tear_32 rfl ⟨rfl, rfl⟩
    · rw [if_pos (k2_lt h15)]
      refine gl_aload_n dX1_tear_18 rfl ?_
      refine gl_iconst (v := nI 1) dX1_tear_19 (by decide) ?_
      refine gl_callV (m_found L o y (1) (by omega)) dX1_tear_20 q1096 q1098 qs44 q75 q1099 rfl hX1_found rfl (rfl : vwCl[1]? = some (RX1, TX1, 21)) rfl rfl (rmOk (by omega) rfl) ⟨by first | exact Nat.le_refl _ | exact Nat.zero_le _ | decide | (dsimp only [rm]; omega), by first | exact Nat.le_refl _ | exact Nat.zero_le _ | decide | (dsimp only [rm]; omega)⟩ (rt1 ?_)
      exact gl_iret dX1_tear_23 rfl ⟨rfl, rfl⟩
  · unfold sp_tear
    rw [if_neg (by simp [bI_fa h4])]
    refine gl_iconst (v := (-1)) dX1_tear_7 (by decide) ?_
    exact gl_iret dX1_tear_8 rfl ⟨rfl, rfl⟩
def sumL (f : Nat → Int32) (a : Nat) : Nat → Int64
  | 0 => 0
  | k + 1 => sumL f a k + (f (a + k)).toInt64
def sp_mean (y : MY) (r : Int32) : Int32 × MY := if inR r 0 5 then (if y.2.2 19 (ix r) < 0 then sfnd y 1 else if y.2.2 19 (ix r) = 0 then sfnd y 4 else sask y (sumL (y.2.2 20) (40 * ix r) (ix (y.2.2 19 (ix r))) / (y.2.2 19 (ix r)).toInt64).toInt32) else (-1, y)
theorem m_mean (hS : szs (y.2.2 19) 6 40) (r : Int32) : Ct yX1_mean gX1_mean (L + 12) 0 0 [.ref 18, .int r] (mM o y) (RtP o (sp_mean y r)) := by
  refine Ct.of rfl rfl rfl rfl rfl ?_
  refine gl_iload_n dX1_mean_0 rfl ?_
  refine gl_callS (m_isRow L _ _) dX1_mean_1 q1089 q1090 q75 q1091 rfl hX1_isRow rfl rfl (rmOk (by omega) rfl) ⟨by first | exact Nat.le_refl _ | exact Nat.zero_le _ | decide | (dsimp only [rm]; omega), by first | exact Nat.le_refl _ | exact Nat.zero_le _ | decide | (dsimp only [rm]; omega)⟩ (rt1 ?_)
  refine gl_if_ne (tgt := 9) dX1_mean_4 (by decide) (fun h4 => ?_) (fun h4 => ?_)
  · have hr := bI_tr h4
    obtain ⟨k, -, hk, rfl⟩ := inR_nat (a := 0) (b := 5) (by omega) (by omega) hr
    unfold sp_mean
    rw [if_pos hr, ix_nI (show k < 100 by omega)]
    refine gl_aload_n dX1_mean_9 rfl ?_
    refine gl_get (k := 0) dX1_mean_10 rfl (rfl : vwCl[1]? = some (RX1, TX1, 21)) in_X1 (by decide) q1020 rfl ?_
    refine gl_iload_n dX1_mean_13 rfl ?_
    refine gl_iald (j := k) dX1_mean_14 rfl rfl (by omega) ?_
    refine gl_if_ge (tgt := 24) dX1_mean_15 (by decide) (fun h15 => ?_) (fun h15 => ?_)
    · rw [if_neg (k2_nlt h15)]
      obtain ⟨s, hs, e⟩ := sz_lt (by omega) hS (show k < 6 by omega) (k2_nlt h15)
      refine gl_aload_n dX1_mean_24 rfl ?_
      refine gl_get (k := 0) dX1_mean_25 rfl (rfl : vwCl[1]? = some (RX1, TX1, 21)) in_X1 (by decide) q1020 rfl ?_
      refine gl_iload_n dX1_mean_28 rfl ?_
      refine gl_iald (j := k) dX1_mean_29 rfl rfl (by omega) ?_
      refine gl_if_ne (tgt := 39) dX1_mean_30 (by decide) (fun h30 => ?_) (fun h30 => ?_)
      · rw [if_neg h30, e, ix_nI (show s < 100 by omega)]
        refine gl_lconst (v := 0) dX1_mean_39 (by decide) ?_
        refine gl_lstore_n dX1_mean_40 rfl rfl ?_
        refine gl_iconst (v := nI 0) dX1_mean_41 (by decide) ?_
        refine gl_istore dX1_mean_42 rfl rfl ?_
        refine gl_loop (fun i => [some (.ref 18), some (.int (nI k)), some (.long (sumL (y.2.2 20) (40 * k) i)), none, some (.int (nI i))]) (fun _ => mM o y) s ?_ ?_
        · intro i hi ih
          refine gl_iload dX1_mean_44 rfl ?_
          refine gl_aload_n dX1_mean_46 rfl ?_
          refine gl_get (k := 0) dX1_mean_47 rfl (rfl : vwCl[1]? = some (RX1, TX1, 21)) in_X1 (by decide) q1020 rfl ?_
          refine gl_iload_n dX1_mean_50 rfl ?_
          refine gl_iald (j := k) dX1_mean_51 rfl rfl (by omega) ?_
          refine gl_icmp_ge (tgt := 77) dX1_mean_52 (by decide) (fun h => absurd h ((by rw [e]; exact nI_ge hi (by omega)))) (fun _ => ?_)
          refine gl_lload_n dX1_mean_55 rfl ?_
          refine gl_aload_n dX1_mean_56 rfl ?_
          refine gl_get (k := 1) dX1_mean_57 rfl (rfl : vwCl[1]? = some (RX1, TX1, 21)) in_X1 (by decide) q1021 rfl ?_
          refine gl_bipush (v := nI 40) dX1_mean_60 (by decide) ?_
          refine gl_iload_n dX1_mean_62 rfl ?_
          refine gl_imul dX1_mean_63 ?_
          refine gl_iload dX1_mean_64 rfl ?_
          refine gl_iadd dX1_mean_66 ?_
          refine gl_iald (j := ((40 * k) + i)) dX1_mean_67 rfl (by simp only [nI_add, nI_mul]) (by omega) ?_
          refine gl_i2l dX1_mean_68 ?_
          refine gl_ladd dX1_mean_69 ?_
          refine gl_lstore_n dX1_mean_70 rfl rfl ?_
          refine gl_iinc (v := (nI (i + 1))) dX1_mean_71 rfl (nI_1 _) rfl rfl ?_
          refine gl_goto (tgt := 44) dX1_mean_74 (by decide) ?_
          exact ih
        · refine gl_iload dX1_mean_44 rfl ?_
          refine gl_aload_n dX1_mean_46 rfl ?_
          refine gl_get (k := 0) dX1_mean_47 rfl (rfl : vwCl[1]? = some (RX1, TX1, 21)) in_X1 (by decide) q1020 rfl ?_
          refine gl_iload_n dX1_mean_50 rfl ?_
          refine gl_iald (j := k) dX1_mean_51 rfl rfl (by omega) ?_
          refine gl_icmp_ge (tgt := 77) dX1_mean_52 (by decide) (fun _ => ?_) (fun h => absurd ((by rw [e]; exact nI_le (Nat.le_refl _) (by omega))) h)
          refine gl_aload_n dX1_mean_77 rfl ?_
          refine gl_lload_n dX1_mean_78 rfl ?_
          refine gl_aload_n dX1_mean_79 rfl ?_
          refine gl_get (k := 0) dX1_mean_80 rfl (rfl : vwCl[1]? = some (RX1, TX1, 21)) in_X1 (by decide) q1020 rfl ?_
          refine gl_iload_n dX1_mean_83 rfl ?_
          refine gl_iald (j := k) dX1_mean_84 rfl rfl (by omega) ?_
          refine gl_i2l dX1_mean_85 ?_
          rw [e]
          have h0 : ¬ (nI s).toInt64 = 0 := by
            rw [e] at h30
            intro q
            apply h30
            have := congrArg Int64.toInt q
            rw [Int32.toInt_toInt64] at this
            exact Int32.toInt_inj.mp this
          refine gl_ldiv dX1_mean_86 h0 ?_
          refine gl_l2i dX1_mean_87 ?_
          refine gl_callV (m_tell L o y _) dX1_mean_88 q1104 q1106 qs45 q75 q1107 rfl hX1_tell rfl (rfl : vwCl[1]? = some (RX1, TX1, 21)) rfl rfl (rmOk (by omega) rfl) ⟨by first | exact Nat.le_refl _ | exact Nat.zero_le _ | decide | (dsimp only [rm]; omega), by first | exact Nat.le_refl _ | exact Nat.zero_le _ | decide | (dsimp only [rm]; omega)⟩ (rt1 ?_)
          exact gl_iret dX1_mean_91 rfl ⟨rfl, rfl⟩
      · rw [if_pos h30]
        refine gl_aload_n dX1_mean_33 rfl ?_
        refine gl_iconst (v := nI 4) dX1_mean_34 (by decide) ?_
        refine gl_callV (m_found L o y (4) (by omega)) dX1_mean_35 q1096 q1098 qs44 q75 q1099 rfl hX1_found rfl (rfl : vwCl[1]? = some (RX1, TX1, 21)) rfl rfl (rmOk (by omega) rfl) ⟨by first | exact Nat.le_refl _ | exact Nat.zero_le _ | decide | (dsimp only [rm]; omega), by first | exact Nat.le_refl _ | exact Nat.zero_le _ | decide | (dsimp only [rm]; omega)⟩ (rt1 ?_)
        exact gl_iret dX1_mean_38 rfl ⟨rfl, rfl⟩
    · rw [if_pos (k2_lt h15)]
      refine gl_aload_n dX1_mean_18 rfl ?_
      refine gl_iconst (v := nI 1) dX1_mean_19 (by decide) ?_
      refine gl_callV (m_found L o y (1) (by omega)) dX1_mean_20 q1096 q1098 qs44 q75 q1099 rfl hX1_found rfl (rfl : vwCl[1]? = some (RX1, TX1, 21)) rfl rfl (rmOk (by omega) rfl) ⟨by first | exact Nat.le_refl _ | exact Nat.zero_le _ | decide | (dsimp only [rm]; omega), by first | exact Nat.le_refl _ | exact Nat.zero_le _ | decide | (dsimp only [rm]; omega)⟩ (rt1 ?_)
      exact gl_iret dX1_mean_23 rfl ⟨rfl, rfl⟩
  · unfold sp_mean
    rw [if_neg (by simp [bI_fa h4])]
    refine gl_iconst (v := (-1)) dX1_mean_7 (by decide) ?_
    exact gl_iret dX1_mean_8 rfl ⟨rfl, rfl⟩
def sp_text (y : MY) (r n : Int32) : Int32 × MY := if !(inR r 0 3) || decide (80 < n) then (-1, y) else if n < 0 then sfnd y 5 else (n, sA (sA y 21 (upd (y.2.2 21) (ix r) n)) 22 (fillI (y.2.2 22) (80 * ix r) (nI 32) 80))
theorem m_text (r n : Int32) : Ct yX1_text gX1_text (L + 12) 0 0 [.ref 18, .int r, .int n] (mM o y) (RtP o (sp_text y r n)) := by
  refine Ct.of rfl rfl rfl rfl rfl ?_
  refine gl_iload_n dX1_text_0 rfl ?_
  refine gl_callS (m_isText L _ _) dX1_text_1 q1128 q1129 q75 q1130 rfl hX1_isText rfl rfl (rmOk (by omega) rfl) ⟨by first | exact Nat.le_refl _ | exact Nat.zero_le _ | decide | (dsimp only [rm]; omega), by first | exact Nat.le_refl _ | exact Nat.zero_le _ | decide | (dsimp only [rm]; omega)⟩ (rt1 ?_)
  refine gl_if_eq (tgt := 13) dX1_text_4 (by decide) (fun h4 => ?_) (fun h4 => ?_)
  · rw [show sp_text y r n = (-1, y) by simp_all [sp_text, bI_ne]]
    refine gl_iconst (v := (-1)) dX1_text_13 (by decide) ?_
    exact gl_iret dX1_text_14 rfl ⟨rfl, rfl⟩
  · have hr := bI_tr h4
    refine gl_iload_n dX1_text_7 rfl ?_
    refine gl_bipush (v := nI 80) dX1_text_8 (by decide) ?_
    refine gl_icmp_le (tgt := 15) dX1_text_10 (by decide) (fun h10 => ?_) (fun h10 => ?_)
    · have h10' : ¬ 80 < n := k2_nlt h10
      refine gl_iload_n dX1_text_15 rfl ?_
      refine gl_if_ge (tgt := 25) dX1_text_16 (by decide) (fun h16 => ?_) (fun h16 => ?_)
      · have h16' : ¬ n < 0 := k2_nlt h16
        rw [show sp_text y r n = (n, sA (sA y 21 (upd (y.2.2 21) (ix r) n)) 22 (fillI (y.2.2 22) (80 * ix r) (nI 32) 80)) by unfold sp_text; rw [if_neg (by simp [hr, h10']), if_neg h16']]
        obtain ⟨k, -, hk, rfl⟩ := inR_nat (a := 0) (b := 3) (by omega) (by omega) hr
        rw [ix_nI (show k < 100 by omega)]
        refine gl_aload_n dX1_text_25 rfl ?_
        refine gl_get (k := 2) dX1_text_26 rfl (rfl : vwCl[1]? = some (RX1, TX1, 21)) in_X1 (by decide) q1022 rfl ?_
        refine gl_iload_n dX1_text_29 rfl ?_
        refine gl_iload_n dX1_text_30 rfl ?_
        refine gl_iast (j := k) dX1_text_31 rfl rfl (by omega) ?_
        refine gl_iconst (v := nI 0) dX1_text_32 (by decide) ?_
        refine gl_istore_n dX1_text_33 rfl rfl ?_
        refine gl_mem (μ1 := mM o (sA (sA y 21 (upd (y.2.2 21) k n)) 22 (fillI (y.2.2 22) (80 * k) (nI 32) 0))) (by rw [fill_0]; rfl) ?_
        refine gl_loop (fun i => [some (.ref 18), some (.int (nI k)), some (.int n), some (.int (nI i))]) (fun i => mM o (sA (sA y 21 (upd (y.2.2 21) k n)) 22 (fillI (y.2.2 22) (80 * k) (nI 32) i))) 80 ?_ ?_
        · intro i hi ih
          refine gl_iload_n dX1_text_34 rfl ?_
          refine gl_bipush (v := nI 80) dX1_text_35 (by decide) ?_
          refine gl_icmp_ge (tgt := 59) dX1_text_37 (by decide) (fun h => absurd h (nI_ge hi (by omega))) (fun _ => ?_)
          refine gl_aload_n dX1_text_40 rfl ?_
          refine gl_get (k := 3) dX1_text_41 rfl (rfl : vwCl[1]? = some (RX1, TX1, 21)) in_X1 (by decide) q1023 rfl ?_
          refine gl_bipush (v := nI 80) dX1_text_44 (by decide) ?_
          refine gl_iload_n dX1_text_46 rfl ?_
          refine gl_imul dX1_text_47 ?_
          refine gl_iload_n dX1_text_48 rfl ?_
          refine gl_iadd dX1_text_49 ?_
          refine gl_bipush (v := nI 32) dX1_text_50 (by decide) ?_
          refine gl_iast (j := ((80 * k) + i)) dX1_text_52 rfl (by simp only [nI_add, nI_mul]) (by omega) ?_
          refine gl_mem (μ1 := mM o (sA (sA y 21 (upd (y.2.2 21) k n)) 22 (fillI (y.2.2 22) (80 * k) (nI 32) (i + 1)))) (by rw [← fill_s]; rfl) ?_
          refine gl_iinc (v := (nI (i + 1))) dX1_text_53 rfl (nI_1 _) rfl rfl ?_
          refine gl_goto (tgt := 34) dX1_text_56 (by decide) ?_
          exact ih
        · refine gl_iload_n dX1_text_34 rfl ?_
          refine gl_bipush (v := nI 80) dX1_text_35 (by decide) ?_
          refine gl_icmp_ge (tgt := 59) dX1_text_37 (by decide) (fun _ => ?_) (fun h => absurd (nI_le (Nat.le_refl _) (by omega)) h)
          refine gl_iload_n dX1_text_59 rfl ?_
          exact gl_iret dX1_text_60 rfl ⟨rfl, rfl⟩
      · rw [show sp_text y r n = sfnd y 5 by unfold sp_text; rw [if_neg (by simp [hr, h10']), if_pos (k2_lt h16)]]
        refine gl_aload_n dX1_text_19 rfl ?_
        refine gl_iconst (v := nI 5) dX1_text_20 (by decide) ?_
        refine gl_callV (m_found L o y (5) (by omega)) dX1_text_21 q1096 q1098 qs44 q75 q1099 rfl hX1_found rfl (rfl : vwCl[1]? = some (RX1, TX1, 21)) rfl rfl (rmOk (by omega) rfl) ⟨by first | exact Nat.le_refl _ | exact Nat.zero_le _ | decide | (dsimp only [rm]; omega), by first | exact Nat.le_refl _ | exact Nat.zero_le _ | decide | (dsimp only [rm]; omega)⟩ (rt1 ?_)
        exact gl_iret dX1_text_24 rfl ⟨rfl, rfl⟩
    · have h10' : 80 < n := k2_lt h10
      rw [show sp_text y r n = (-1, y) by unfold sp_text; rw [if_pos (by simp [h10'])]]
      refine gl_iconst (v := (-1)) dX1_text_13 (by decide) ?_
      exact gl_iret dX1_text_14 rfl ⟨rfl, rfl⟩
def sp_putB (y : MY) (r i v : Int32) : Int32 × MY := if inR r 0 3 then (if y.2.2 21 (ix r) < 0 then sfnd y 1 else if inR i 0 (y.2.2 21 (ix r) - 1) then (y.2.2 22 (80 * ix r + ix i) + nI 1000, sA y 22 (upd (y.2.2 22) (80 * ix r + ix i) v.toInt8.toInt32)) else sfnd y 2) else (-1, y)
theorem m_put (hS : szs (y.2.2 21) 4 80) (r i v : Int32) : Ct yX1_put gX1_put (L + 12) 0 0 [.ref 18, .int r, .int i, .int v] (mM o y) (RtP o (sp_putB y r i v)) := by
  refine Ct.of rfl rfl rfl rfl rfl ?_
  refine gl_iload_n dX1_put_0 rfl ?_
  refine gl_callS (m_isText L _ _) dX1_put_1 q1128 q1129 q75 q1130 rfl hX1_isText rfl rfl (rmOk (by omega) rfl) ⟨by first | exact Nat.le_refl _ | exact Nat.zero_le _ | decide | (dsimp only [rm]; omega), by first | exact Nat.le_refl _ | exact Nat.zero_le _ | decide | (dsimp only [rm]; omega)⟩ (rt1 ?_)
  refine gl_if_ne (tgt := 9) dX1_put_4 (by decide) (fun h4 => ?_) (fun h4 => ?_)
  · have hr := bI_tr h4
    obtain ⟨k, -, hk, rfl⟩ := inR_nat (a := 0) (b := 3) (by omega) (by omega) hr
    unfold sp_putB
    rw [if_pos hr, ix_nI (show k < 100 by omega)]
    refine gl_aload_n dX1_put_9 rfl ?_
    refine gl_get (k := 2) dX1_put_10 rfl (rfl : vwCl[1]? = some (RX1, TX1, 21)) in_X1 (by decide) q1022 rfl ?_
    refine gl_iload_n dX1_put_13 rfl ?_
    refine gl_iald (j := k) dX1_put_14 rfl rfl (by omega) ?_
    refine gl_if_ge (tgt := 24) dX1_put_15 (by decide) (fun h15 => ?_) (fun h15 => ?_)
    · rw [if_neg (k2_nlt h15)]
      obtain ⟨s, hs, e⟩ := sz_lt (by omega) hS (show k < 4 by omega) (k2_nlt h15)
      refine gl_iload_n dX1_put_24 rfl ?_
      refine gl_i2l dX1_put_25 ?_
      refine gl_lconst (v := 0) dX1_put_26 (by decide) ?_
      refine gl_aload_n dX1_put_27 rfl ?_
      refine gl_get (k := 2) dX1_put_28 rfl (rfl : vwCl[1]? = some (RX1, TX1, 21)) in_X1 (by decide) q1022 rfl ?_
      refine gl_iload_n dX1_put_31 rfl ?_
      refine gl_iald (j := k) dX1_put_32 rfl rfl (by omega) ?_
      refine gl_iconst (v := nI 1) dX1_put_33 (by decide) ?_
      refine gl_isub dX1_put_34 ?_
      refine gl_i2l dX1_put_35 ?_
      refine gl_callS (m_in_i L (mM o y) _ 0 (y.2.2 21 k - 1) rfl rfl) dX1_put_36 q1093 q1094 q75 q1095 rfl hX1_in rfl rfl (rmOk (by omega) rfl) ⟨by first | exact Nat.le_refl _ | exact Nat.zero_le _ | decide | (dsimp only [rm]; omega), by first | exact Nat.le_refl _ | exact Nat.zero_le _ | decide | (dsimp only [rm]; omega)⟩ (rt1 ?_)
      refine gl_if_ne (tgt := 48) dX1_put_39 (by decide) (fun h39 => ?_) (fun h39 => ?_)
      · have hi := bI_tr h39
        rw [if_pos hi]
        rw [e] at hi
        obtain ⟨j, hj, rfl⟩ := inR_n (by omega) hi
        rw [ix_nI (show j < 100 by omega)]
        refine gl_aload_n dX1_put_48 rfl ?_
        refine gl_get (k := 3) dX1_put_49 rfl (rfl : vwCl[1]? = some (RX1, TX1, 21)) in_X1 (by decide) q1023 rfl ?_
        refine gl_bipush (v := nI 80) dX1_put_52 (by decide) ?_
        refine gl_iload_n dX1_put_54 rfl ?_
        refine gl_imul dX1_put_55 ?_
        refine gl_iload_n dX1_put_56 rfl ?_
        refine gl_iadd dX1_put_57 ?_
        refine gl_iald (j := ((80 * k) + j)) dX1_put_58 rfl (by simp only [nI_add, nI_mul]) (by omega) ?_
        refine gl_istore dX1_put_59 rfl rfl ?_
        refine gl_aload_n dX1_put_61 rfl ?_
        refine gl_get (k := 3) dX1_put_62 rfl (rfl : vwCl[1]? = some (RX1, TX1, 21)) in_X1 (by decide) q1023 rfl ?_
        refine gl_bipush (v := nI 80) dX1_put_65 (by decide) ?_
        refine gl_iload_n dX1_put_67 rfl ?_
        refine gl_imul dX1_put_68 ?_
        refine gl_iload_n dX1_put_69 rfl ?_
        refine gl_iadd dX1_put_70 ?_
        refine gl_iload_n dX1_put_71 rfl ?_
        refine gl_i2b dX1_put_72 ?_
        refine gl_iast (j := ((80 * k) + j)) dX1_put_73 rfl (by simp only [nI_add, nI_mul]) (by omega) ?_
        refine gl_iload dX1_put_74 rfl ?_
        refine gl_sipush (v := nI 1000) dX1_put_76 (by decide) ?_
        refine gl_iadd dX1_put_79 ?_
        exact gl_iret dX1_put_80 rfl ⟨rfl, rfl⟩
      · rw [if_neg (by simp [bI_fa h39])]
        refine gl_aload_n dX1_put_42 rfl ?_
        refine gl_iconst (v := nI 2) dX1_put_43 (by decide) ?_
        refine gl_callV (m_found L o y (2) (by omega)) dX1_put_44 q1096 q1098 qs44 q75 q1099 rfl hX1_found rfl (rfl : vwCl[1]? = some (RX1, TX1, 21)) rfl rfl (rmOk (by omega) rfl) ⟨by first | exact Nat.le_refl _ | exact Nat.zero_le _ | decide | (dsimp only [rm]; omega), by first | exact Nat.le_refl _ | exact Nat.zero_le _ | decide | (dsimp only [rm]; omega)⟩ (rt1 ?_)
        exact gl_iret dX1_put_47 rfl ⟨rfl, rfl⟩
    · rw [if_pos (k2_lt h15)]
      refine gl_aload_n dX1_put_18 rfl ?_
      refine gl_iconst (v := nI 1) dX1_put_19 (by decide) ?_
      refine gl_callV (m_found L o y (1) (by omega)) dX1_put_20 q1096 q1098 qs44 q75 q1099 rfl hX1_found rfl (rfl : vwCl[1]? = some (RX1, TX1, 21)) rfl rfl (rmOk (by omega) rfl) ⟨by first | exact Nat.le_refl _ | exact Nat.zero_le _ | decide | (dsimp only [rm]; omega), by first | exact Nat.le_refl _ | exact Nat.zero_le _ | decide | (dsimp only [rm]; omega)⟩ (rt1 ?_)
      exact gl_iret dX1_put_23 rfl ⟨rfl, rfl⟩
  · unfold sp_putB
    rw [if_neg (by simp [bI_fa h4])]
    refine gl_iconst (v := (-1)) dX1_put_7 (by decide) ?_
    exact gl_iret dX1_put_8 rfl ⟨rfl, rfl⟩
def sp_findings (y : MY) (f : Int32) : Int32 × MY := (if inR f 1 5 then y.2.2 26 (ix f) else -1, y)
theorem m_findings (f : Int32) : Ct yX1_findings gX1_findings (L + 12) 0 0 [.ref 18, .int f] (mM o y) (RtP o (sp_findings y f)) := by
  refine Ct.of rfl rfl rfl rfl rfl ?_
  refine gl_iload_n dX1_findings_0 rfl ?_
  refine gl_i2l dX1_findings_1 ?_
  refine gl_lconst (v := 1) dX1_findings_2 (by decide) ?_
  refine gl_ldc2 (v := 5) q1092 dX1_findings_3 ?_
  refine gl_callS (m_in_i L (mM o y) f 1 5 rfl rfl) dX1_findings_6 q1093 q1094 q75 q1095 rfl hX1_in rfl rfl (rmOk (by omega) rfl) ⟨by first | exact Nat.le_refl _ | exact Nat.zero_le _ | decide | (dsimp only [rm]; omega), by first | exact Nat.le_refl _ | exact Nat.zero_le _ | decide | (dsimp only [rm]; omega)⟩ (rt1 ?_)
  refine gl_if_eq (tgt := 21) dX1_findings_9 (by decide) (fun h9 => ?_) (fun h9 => ?_)
  · unfold sp_findings
    rw [if_neg (by simp [bI_fa h9])]
    refine gl_iconst (v := (-1)) dX1_findings_21 (by decide) ?_
    exact gl_iret dX1_findings_22 rfl ⟨rfl, rfl⟩
  · have hr := bI_tr h9
    unfold sp_findings
    rw [if_pos hr]
    obtain ⟨k, -, hk, rfl⟩ := inR_nat (a := 1) (b := 5) (by omega) (by omega) hr
    rw [ix_nI (show k < 100 by omega)]
    refine gl_aload_n dX1_findings_12 rfl ?_
    refine gl_get (k := 11) dX1_findings_13 rfl (rfl : vwCl[1]? = some (RX1, TX1, 21)) in_X1 (by decide) q1031 rfl ?_
    refine gl_iload_n dX1_findings_16 rfl ?_
    refine gl_iald (j := k) dX1_findings_17 rfl rfl (by omega) ?_
    refine gl_goto (tgt := 22) dX1_findings_18 (by decide) ?_
    exact gl_iret dX1_findings_22 rfl ⟨rfl, rfl⟩
theorem m_finding : Ct yX1_finding gX1_finding (L + 12) 0 0 [.ref 18] (mM o y) (RtP o (y.1 10, y)) := by
  refine Ct.of rfl rfl rfl rfl rfl ?_
  refine gl_aload_n dX1_finding_0 rfl ?_
  refine gl_get (k := 10) dX1_finding_1 rfl (rfl : vwCl[1]? = some (RX1, TX1, 21)) in_X1 (by decide) q1030 rfl ?_
  exact gl_iret dX1_finding_4 rfl ⟨rfl, rfl⟩
theorem m_asked : Ct yX1_asked gX1_asked (L + 12) 0 0 [.ref 18] (mM o y) (RtP o (y.1 7, y)) := by
  refine Ct.of rfl rfl rfl rfl rfl ?_
  refine gl_aload_n dX1_asked_0 rfl ?_
  refine gl_get (k := 7) dX1_asked_1 rfl (rfl : vwCl[1]? = some (RX1, TX1, 21)) in_X1 (by decide) q1027 rfl ?_
  exact gl_iret dX1_asked_4 rfl ⟨rfl, rfl⟩
theorem m_upper : Ct yX1_upper gX1_upper (L + 12) 0 0 [.ref 18] (mM o y) (Rt (some (.long (y.2.1 8))) (mM o y)) := by
  refine Ct.of rfl rfl rfl rfl rfl ?_
  refine gl_aload_n dX1_upper_0 rfl ?_
  refine gl_get (k := 8) dX1_upper_1 rfl (rfl : vwCl[1]? = some (RX1, TX1, 21)) in_X1 (by decide) q1028 rfl ?_
  exact gl_lret dX1_upper_4 rfl ⟨rfl, rfl⟩
theorem m_lower : Ct yX1_lower gX1_lower (L + 12) 0 0 [.ref 18] (mM o y) (Rt (some (.long (y.2.1 9))) (mM o y)) := by
  refine Ct.of rfl rfl rfl rfl rfl ?_
  refine gl_aload_n dX1_lower_0 rfl ?_
  refine gl_get (k := 9) dX1_lower_1 rfl (rfl : vwCl[1]? = some (RX1, TX1, 21)) in_X1 (by decide) q1029 rfl ?_
  exact gl_lret dX1_lower_4 rfl ⟨rfl, rfl⟩
end MR

