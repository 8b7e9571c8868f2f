/-! matchings laid, counted, told: the model -/
set_option maxRecDepth 100000
def RtJ (o : OY) (p : Int32 × ((Nat → Int32) → MY)) : Option Value → Mem → Prop := fun v μ => ∃ A, v = some (.int p.1) ∧ μ = mM o (p.2 A)
section MW
variable (L : Nat) (o : OY) (y : MY) {n m t : Nat}
def laidS (y : MY) (k m : Nat) : MY := sA (sA y 19 (upd (y.2.2 19) k (nI m))) 20 (va_cpy (y.2.2 29) (fillI (y.2.2 20) (40 * k) 0 40) 0 (40 * k) m)
theorem m_laid (hq : y.2.2 23 1 = nI m) (h7q : m ≤ 7) (k : Nat) (hk : k ≤ 5) : Ct yX1_laid gX1_laid (L + 13) 0 0 [.ref 18, .int (nI k)] (mM o y) (Rt (some (.int (y.1 18))) (mM o (laidS y k m))) := by
  refine Ct.of rfl rfl rfl rfl rfl ?_
  have hr : inR (nI k) 0 5 = true := inR_k (n := 6) (by omega) (by omega)
  have e : sp_row y (nI k) (nI m) = (nI m, sA (sA y 19 (upd (y.2.2 19) k (nI m))) 20 (fillI (y.2.2 20) (40 * k) 0 40)) := by
    unfold sp_row
    rw [if_neg (by simp [hr]; exact nI_le (b := 40) (by omega) (by omega)), if_neg (nI_pos (by omega)), ix_nI (show k < 100 by omega)]
  refine gl_aload_n dX1_laid_0 rfl ?_
  refine gl_iload_n dX1_laid_1 rfl ?_
  refine gl_aload_n dX1_laid_2 rfl ?_
  refine gl_get (k := 4) dX1_laid_3 rfl (rfl : vwCl[1]? = some (RX1, TX1, 21)) in_X1 (by decide) q1024 rfl ?_
  refine gl_iconst (v := nI 1) dX1_laid_6 (by decide) ?_
  refine gl_iald (j := 1) dX1_laid_7 rfl rfl (by omega) ?_
  rw [hq]
  refine gl_callV (m_row L o y (nI k) (nI m)) dX1_laid_8 q1301 q1086 q1087 q75 q1088 rfl hX1_row rfl (rfl : vwCl[1]? = some (RX1, TX1, 21)) rfl rfl (rmOk (by omega) rfl) ⟨by first | exact Nat.le_refl _ | exact Nat.zero_le _ | decide | (dsimp only [rm]; omega), by first | exact Nat.le_refl _ | exact Nat.zero_le _ | decide | (dsimp only [rm]; omega)⟩ ?_
  rw [e]
  refine rtP ?_
  refine gl_istore_n dX1_laid_11 rfl rfl ?_
  refine gl_iconst (v := nI 0) dX1_laid_12 (by decide) ?_
  refine gl_istore_n dX1_laid_13 rfl rfl ?_
  refine gl_mem (μ1 := mM o (sA (sA y 19 (upd (y.2.2 19) k (nI m))) 20 (va_cpy (y.2.2 29) (fillI (y.2.2 20) (40 * k) 0 40) 0 (40 * k) 0))) (by rw [cpy_0]) ?_
  refine gl_loop (fun q => [some (.ref 18), some (.int (nI k)), some (.int (nI m)), some (.int (nI q))]) (fun q => mM o (sA (sA y 19 (upd (y.2.2 19) k (nI m))) 20 (va_cpy (y.2.2 29) (fillI (y.2.2 20) (40 * k) 0 40) 0 (40 * k) q))) m ?_ ?_
  · intro q hq ih
    refine gl_iload_n dX1_laid_14 rfl ?_
    refine gl_iload_n dX1_laid_15 rfl ?_
    refine gl_icmp_ge (tgt := 42) dX1_laid_16 (by decide) (fun h => absurd h (nI_ge hq (by omega))) (fun _ => ?_)
    refine gl_aload_n dX1_laid_19 rfl ?_
    refine gl_get (k := 1) dX1_laid_20 rfl (rfl : vwCl[1]? = some (RX1, TX1, 21)) in_X1 (by decide) q1021 rfl ?_
    refine gl_bipush (v := nI 40) dX1_laid_23 (by decide) ?_
    refine gl_iload_n dX1_laid_25 rfl ?_
    refine gl_imul dX1_laid_26 ?_
    refine gl_iload_n dX1_laid_27 rfl ?_
    refine gl_iadd dX1_laid_28 ?_
    refine gl_aload_n dX1_laid_29 rfl ?_
    refine gl_get (k := 15) dX1_laid_30 rfl (rfl : vwCl[1]? = some (RX1, TX1, 21)) in_X1 (by decide) q1035 rfl ?_
    refine gl_iload_n dX1_laid_33 rfl ?_
    refine gl_iald (j := q) dX1_laid_34 rfl rfl (by omega) ?_
    refine gl_iast (j := ((40 * k) + q)) dX1_laid_35 rfl (by simp only [nI_add, nI_mul]) (by omega) ?_
    refine gl_iinc (v := (nI (q + 1))) dX1_laid_36 rfl (nI_1 _) rfl rfl ?_
    refine gl_goto (tgt := 14) dX1_laid_39 (by decide) ?_
    refine gl_mem ?_ ih
    rw [← cpy_s, Nat.zero_add]
    rfl
  · refine gl_iload_n dX1_laid_14 rfl ?_
    refine gl_iload_n dX1_laid_15 rfl ?_
    refine gl_icmp_ge (tgt := 42) dX1_laid_16 (by decide) (fun _ => ?_) (fun h => absurd (nI_le (Nat.le_refl _) (by omega)) h)
    refine gl_aload_n dX1_laid_42 rfl ?_
    refine gl_get (k := 18) dX1_laid_43 rfl (rfl : vwCl[1]? = some (RX1, TX1, 21)) in_X1 (by decide) q1038 rfl ?_
    exact gl_iret dX1_laid_46 rfl ⟨rfl, rfl⟩
def sp_match (y : MY) (n m : Nat) (b : Bool) (r : Int32) : Int32 × ((Nat → Int32) → MY) := if inR r 0 5 then ((layQ y n m b).1, fun A => laidS (mqS y A (layQ y n m b)) (ix r) m) else (-1, fun _ => y)
theorem m_match (hL : Lb (y.2.2 23) n m t) (r : Int32) : Ct yX1_match gX1_match (L + 15) 0 0 [.ref 18, .int r] (mM o y) (RtJ o (sp_match y n m false r)) := by
  refine Ct.of rfl rfl rfl rfl rfl ?_
  refine gl_iload_n dX1_match_0 rfl ?_
  refine gl_callS (m_isRow L _ _) dX1_match_1 q1089 q1090 q75 q1091 rfl hX1_isRow rfl rfl (rmOk (by omega) rfl) ⟨by first | exact Nat.le_refl _ | exact Nat.zero_le _ | decide | (dsimp only [rm]; omega), by first | exact Nat.le_refl _ | exact Nat.zero_le _ | decide | (dsimp only [rm]; omega)⟩ (rt1 ?_)
  refine gl_if_ne (tgt := 9) dX1_match_4 (by decide) (fun h4 => ?_) (fun h4 => ?_)
  · have hr := bI_tr h4
    unfold sp_match
    rw [if_pos hr]
    obtain ⟨k, -, hk, rfl⟩ := inR_nat (a := 0) (b := 5) (by omega) (by omega) hr
    rw [ix_nI (show k < 100 by omega)]
    refine gl_aload_n dX1_match_9 rfl ?_
    refine gl_iconst (v := nI 0) dX1_match_10 (by decide) ?_
    refine gl_callV (m_layM L o y hL false) dX1_match_11 q1285 q1287 qs64 q75 q1288 rfl hX1_layMatchings rfl (rfl : vwCl[1]? = some (RX1, TX1, 21)) rfl rfl (rmOk (by omega) rfl) ⟨by first | exact Nat.le_refl _ | exact Nat.zero_le _ | decide | (dsimp only [rm]; omega), by first | exact Nat.le_refl _ | exact Nat.zero_le _ | decide | (dsimp only [rm]; omega)⟩ ?_
    rintro _ _ ⟨rfl, A, rfl⟩
    refine gl_aload_n dX1_match_14 rfl ?_
    refine gl_iload_n dX1_match_15 rfl ?_
    refine gl_callV (m_laid L o (mqS y A (layQ y n m false)) hL.q hL.q7 k hk) dX1_match_16 q1297 q1299 qs67 q75 q1300 rfl hX1_laid rfl (rfl : vwCl[1]? = some (RX1, TX1, 21)) rfl rfl (rmOk (by omega) rfl) ⟨by first | exact Nat.le_refl _ | exact Nat.zero_le _ | decide | (dsimp only [rm]; omega), by first | exact Nat.le_refl _ | exact Nat.zero_le _ | decide | (dsimp only [rm]; omega)⟩ (rt1 ?_)
    exact gl_iret dX1_match_19 rfl ⟨A, rfl, rfl⟩
  · unfold sp_match
    rw [if_neg (by simp [bI_fa h4])]
    refine gl_iconst (v := (-1)) dX1_match_7 (by decide) ?_
    exact gl_iret dX1_match_8 rfl ⟨y.2.2 28, rfl, rfl⟩
theorem m_wished (hL : Lb (y.2.2 23) n m t) (r : Int32) : Ct yX1_wished gX1_wished (L + 15) 0 0 [.ref 18, .int r] (mM o y) (RtJ o (sp_match y n m true r)) := by
  refine Ct.of rfl rfl rfl rfl rfl ?_
  refine gl_iload_n dX1_wished_0 rfl ?_
  refine gl_callS (m_isRow L _ _) dX1_wished_1 q1089 q1090 q75 q1091 rfl hX1_isRow rfl rfl (rmOk (by omega) rfl) ⟨by first | exact Nat.le_refl _ | exact Nat.zero_le _ | decide | (dsimp only [rm]; omega), by first | exact Nat.le_refl _ | exact Nat.zero_le _ | decide | (dsimp only [rm]; omega)⟩ (rt1 ?_)
  refine gl_if_ne (tgt := 9) dX1_wished_4 (by decide) (fun h4 => ?_) (fun h4 => ?_)
  · have hr := bI_tr h4
    unfold sp_match
    rw [if_pos hr]
    obtain ⟨k, -, hk, rfl⟩ := inR_nat (a := 0) (b := 5) (by omega) (by omega) hr
    rw [ix_nI (show k < 100 by omega)]
    refine gl_aload_n dX1_wished_9 rfl ?_
    refine gl_iconst (v := nI 1) dX1_wished_10 (by decide) ?_
    refine gl_callV (m_layM L o y hL true) dX1_wished_11 q1285 q1287 qs64 q75 q1288 rfl hX1_layMatchings rfl (rfl : vwCl[1]? = some (RX1, TX1, 21)) rfl rfl (rmOk (by omega) rfl) ⟨by first | exact Nat.le_refl _ | exact Nat.zero_le _ | decide | (dsimp only [rm]; omega), by first | exact Nat.le_refl _ | exact Nat.zero_le _ | decide | (dsimp only [rm]; omega)⟩ ?_
    rintro _ _ ⟨rfl, A, rfl⟩
    refine gl_aload_n dX1_wished_14 rfl ?_
    refine gl_iload_n dX1_wished_15 rfl ?_
    refine gl_callV (m_laid L o (mqS y A (layQ y n m true)) hL.q hL.q7 k hk) dX1_wished_16 q1297 q1299 qs67 q75 q1300 rfl hX1_laid rfl (rfl : vwCl[1]? = some (RX1, TX1, 21)) rfl rfl (rmOk (by omega) rfl) ⟨by first | exact Nat.le_refl _ | exact Nat.zero_le _ | decide | (dsimp only [rm]; omega), by first | exact Nat.le_refl _ | exact Nat.zero_le _ | decide | (dsimp only [rm]; omega)⟩ (rt1 ?_)
    exact gl_iret dX1_wished_19 rfl ⟨A, rfl, rfl⟩
  · unfold sp_match
    rw [if_neg (by simp [bI_fa h4])]
    refine gl_iconst (v := (-1)) dX1_wished_7 (by decide) ?_
    exact gl_iret dX1_wished_8 rfl ⟨y.2.2 28, rfl, rfl⟩
def flN (Q : QS) : Nat → Int32 := cntI (fun k => Q.2.2.1 k == Q.2.1)
def sp_fullest (y : MY) (n m : Nat) : Int32 × ((Nat → Int32) → MY) := ((layQ y n m false).2.1, fun A => sI (mqS y A (layQ y n m false)) 7 (flN (layQ y n m false) 49))
theorem m_fullest (hL : Lb (y.2.2 23) n m t) : Ct yX1_fullest gX1_fullest (L + 15) 0 0 [.ref 18] (mM o y) (RtJ o (sp_fullest y n m)) := by
  refine Ct.of rfl rfl rfl rfl rfl ?_
  refine gl_aload_n dX1_fullest_0 rfl ?_
  refine gl_iconst (v := nI 0) dX1_fullest_1 (by decide) ?_
  refine gl_callV (m_layM L o y hL false) dX1_fullest_2 q1285 q1287 qs64 q75 q1288 rfl hX1_layMatchings rfl (rfl : vwCl[1]? = some (RX1, TX1, 21)) rfl rfl (rmOk (by omega) rfl) ⟨by first | exact Nat.le_refl _ | exact Nat.zero_le _ | decide | (dsimp only [rm]; omega), by first | exact Nat.le_refl _ | exact Nat.zero_le _ | decide | (dsimp only [rm]; omega)⟩ ?_
  rintro _ _ ⟨rfl, A, rfl⟩
  unfold sp_fullest
  generalize layQ y n m false = Q
  refine gl_iconst (v := nI 0) dX1_fullest_5 (by decide) ?_
  refine gl_istore_n dX1_fullest_6 rfl rfl ?_
  refine gl_iconst (v := nI 0) dX1_fullest_7 (by decide) ?_
  refine gl_istore_n dX1_fullest_8 rfl rfl ?_
  refine gl_loop (fun k => [some (.ref 18), some (.int (flN Q k)), some (.int (nI k))]) (fun _ => mM o (mqS y A Q)) 49 ?_ ?_
  · intro k hk ih
    refine gl_iload_n dX1_fullest_9 rfl ?_
    refine gl_bipush (v := nI 49) dX1_fullest_10 (by decide) ?_
    refine gl_icmp_ge (tgt := 42) dX1_fullest_12 (by decide) (fun h => absurd h (nI_ge hk (by omega))) (fun _ => ?_)
    refine gl_iload_n dX1_fullest_15 rfl ?_
    refine gl_aload_n dX1_fullest_16 rfl ?_
    refine gl_get (k := 16) dX1_fullest_17 rfl (rfl : vwCl[1]? = some (RX1, TX1, 21)) in_X1 (by decide) q1036 rfl ?_
    refine gl_iload_n dX1_fullest_20 rfl ?_
    refine gl_iald (j := k) dX1_fullest_21 rfl rfl (by omega) ?_
    refine gl_aload_n dX1_fullest_22 rfl ?_
    refine gl_get (k := 17) dX1_fullest_23 rfl (rfl : vwCl[1]? = some (RX1, TX1, 21)) in_X1 (by decide) q1037 rfl ?_
    refine gl_icmp_ne (tgt := 33) dX1_fullest_26 (by decide) (fun h26 => ?_) (fun h26 => ?_)
    · have z : ¬ Q.2.2.1 k = Q.2.1 := h26
      refine gl_iconst (v := nI 0) dX1_fullest_33 (by decide) ?_
      refine gl_iadd dX1_fullest_34 ?_
      refine gl_istore_n dX1_fullest_35 rfl rfl ?_
      refine gl_iinc (v := (nI (k + 1))) dX1_fullest_36 rfl (nI_1 _) rfl rfl ?_
      refine gl_goto (tgt := 9) dX1_fullest_39 (by decide) ?_
      exact gl_lcs (by simp only [flN, cntI]; simp [z, bI] <;> rfl) ih
    · have z : Q.2.2.1 k = Q.2.1 := h26
      refine gl_iconst (v := nI 1) dX1_fullest_29 (by decide) ?_
      refine gl_goto (tgt := 34) dX1_fullest_30 (by decide) ?_
      refine gl_iadd dX1_fullest_34 ?_
      refine gl_istore_n dX1_fullest_35 rfl rfl ?_
      refine gl_iinc (v := (nI (k + 1))) dX1_fullest_36 rfl (nI_1 _) rfl rfl ?_
      refine gl_goto (tgt := 9) dX1_fullest_39 (by decide) ?_
      exact gl_lcs (by simp only [flN, cntI]; simp [z, bI] <;> rfl) ih
  · refine gl_iload_n dX1_fullest_9 rfl ?_
    refine gl_bipush (v := nI 49) dX1_fullest_10 (by decide) ?_
    refine gl_icmp_ge (tgt := 42) dX1_fullest_12 (by decide) (fun _ => ?_) (fun h => absurd (nI_le (Nat.le_refl _) (by omega)) h)
    refine gl_aload_n dX1_fullest_42 rfl ?_
    refine gl_iload_n dX1_fullest_43 rfl ?_
    refine gl_callV (m_tell L o (mqS y A Q) _) dX1_fullest_44 q1104 q1106 qs45 q75 q1107 rfl hX1_tell rfl (rfl : vwCl[1]? = some (RX1, TX1, 21)) rfl rfl (rmOk (by omega) rfl) ⟨by first | exact Nat.le_refl _ | exact Nat.zero_le _ | decide | (dsimp only [rm]; omega), by first | exact Nat.le_refl _ | exact Nat.zero_le _ | decide | (dsimp only [rm]; omega)⟩ (rt1 ?_)
    refine gl_istore_n dX1_fullest_47 rfl rfl ?_
    refine gl_aload_n dX1_fullest_48 rfl ?_
    refine gl_get (k := 17) dX1_fullest_49 rfl (rfl : vwCl[1]? = some (RX1, TX1, 21)) in_X1 (by decide) q1037 rfl ?_
    exact gl_iret dX1_fullest_52 rfl ⟨A, rfl, rfl⟩
def sp_may (y : MY) (n m : Nat) (c : Int32) : Int32 × ((Nat → Int32) → MY) := if inR c 0 (y.2.2 23 0 - 1) then (orI (fun q => decide (0 < (layQ y n m false).2.2.1 (7 * q + ix c))) m, fun A => mqS y A (layQ y n m false)) else (-1, fun _ => y)
theorem m_may (hL : Lb (y.2.2 23) n m t) (c : Int32) : Ct yX1_may gX1_may (L + 15) 0 0 [.ref 18, .int c] (mM o y) (RtJ o (sp_may y n m c)) := by
  refine Ct.of rfl rfl rfl rfl rfl ?_
  have h7 := hL.c7
  have h7q := hL.q7
  refine gl_aload_n dX1_may_0 rfl ?_
  refine gl_iload_n dX1_may_1 rfl ?_
  refine gl_callV (m_isCard L o y _) dX1_may_2 q1176 q1178 qs51 q75 q1179 rfl hX1_isCard rfl (rfl : vwCl[1]? = some (RX1, TX1, 21)) rfl rfl (rmOk (by omega) rfl) ⟨by first | exact Nat.le_refl _ | exact Nat.zero_le _ | decide | (dsimp only [rm]; omega), by first | exact Nat.le_refl _ | exact Nat.zero_le _ | decide | (dsimp only [rm]; omega)⟩ (rt1 ?_)
  refine gl_if_ne (tgt := 10) dX1_may_5 (by decide) (fun h5 => ?_) (fun h5 => ?_)
  · have hr := bI_tr h5
    unfold sp_may
    rw [if_pos hr]
    rw [hL.c] at hr
    obtain ⟨c, hc, rfl⟩ := inR_n (by omega) hr
    rw [ix_nI (show c < 100 by omega)]
    refine gl_aload_n dX1_may_10 rfl ?_
    refine gl_iconst (v := nI 0) dX1_may_11 (by decide) ?_
    refine gl_callV (m_layM L o y hL false) dX1_may_12 q1285 q1287 qs64 q75 q1288 rfl hX1_layMatchings rfl (rfl : vwCl[1]? = some (RX1, TX1, 21)) rfl rfl (rmOk (by omega) rfl) ⟨by first | exact Nat.le_refl _ | exact Nat.zero_le _ | decide | (dsimp only [rm]; omega), by first | exact Nat.le_refl _ | exact Nat.zero_le _ | decide | (dsimp only [rm]; omega)⟩ ?_
    rintro _ _ ⟨rfl, A, rfl⟩
    generalize layQ y n m false = Q
    refine gl_iconst (v := nI 0) dX1_may_15 (by decide) ?_
    refine gl_istore_n dX1_may_16 rfl rfl ?_
    refine gl_iconst (v := nI 0) dX1_may_17 (by decide) ?_
    refine gl_istore_n dX1_may_18 rfl rfl ?_
    refine gl_loop (fun q => [some (.ref 18), some (.int (nI c)), some (.int (orI (fun q => decide (0 < Q.2.2.1 (7 * q + c))) q)), some (.int (nI q))]) (fun _ => mM o (mqS y A Q)) m ?_ ?_
    · intro q hq ih
      refine gl_iload_n dX1_may_19 rfl ?_
      refine gl_aload_n dX1_may_20 rfl ?_
      refine gl_get (k := 4) dX1_may_21 rfl (rfl : vwCl[1]? = some (RX1, TX1, 21)) in_X1 (by decide) q1024 rfl ?_
      refine gl_iconst (v := nI 1) dX1_may_24 (by decide) ?_
      refine gl_iald (j := 1) dX1_may_25 rfl rfl (by omega) ?_
      refine gl_icmp_ge (tgt := 59) dX1_may_26 (by decide) (fun h => absurd h ((by show ¬ y.2.2 23 1 ≤ nI q; rw [hL.q]; exact nI_ge hq (by omega)))) (fun _ => ?_)
      refine gl_iload_n dX1_may_29 rfl ?_
      refine gl_aload_n dX1_may_30 rfl ?_
      refine gl_get (k := 16) dX1_may_31 rfl (rfl : vwCl[1]? = some (RX1, TX1, 21)) in_X1 (by decide) q1036 rfl ?_
      refine gl_bipush (v := nI 7) dX1_may_34 (by decide) ?_
      refine gl_iload_n dX1_may_36 rfl ?_
      refine gl_imul dX1_may_37 ?_
      refine gl_iload_n dX1_may_38 rfl ?_
      refine gl_iadd dX1_may_39 ?_
      refine gl_iald (j := ((7 * q) + c)) dX1_may_40 rfl (by simp only [nI_add, nI_mul]) (by omega) ?_
      refine gl_if_le (tgt := 50) dX1_may_41 (by decide) (fun h41 => ?_) (fun h41 => ?_)
      · have z : ¬ 0 < Q.2.2.1 (7 * q + c) := k2_nlt h41
        refine gl_iconst (v := nI 0) dX1_may_50 (by decide) ?_
        refine gl_ior dX1_may_51 ?_
        refine gl_istore_n dX1_may_52 rfl rfl ?_
        refine gl_iinc (v := (nI (q + 1))) dX1_may_53 rfl (nI_1 _) rfl rfl ?_
        refine gl_goto (tgt := 19) dX1_may_56 (by decide) ?_
        exact gl_lcs (by simp only [orI]; rw [if_neg (by rw [decide_eq_true_eq]; exact z)]; rfl) ih
      · have z : 0 < Q.2.2.1 (7 * q + c) := k2_lt h41
        refine gl_iconst (v := nI 1) dX1_may_44 (by decide) ?_
        refine gl_iload_n dX1_may_45 rfl ?_
        refine gl_ishl dX1_may_46 ?_
        refine gl_goto (tgt := 51) dX1_may_47 (by decide) ?_
        refine gl_ior dX1_may_51 ?_
        refine gl_istore_n dX1_may_52 rfl rfl ?_
        refine gl_iinc (v := (nI (q + 1))) dX1_may_53 rfl (nI_1 _) rfl rfl ?_
        refine gl_goto (tgt := 19) dX1_may_56 (by decide) ?_
        exact gl_lcs (by simp only [orI]; rw [if_pos (by rw [decide_eq_true_eq]; exact z)]; rfl) ih
    · refine gl_iload_n dX1_may_19 rfl ?_
      refine gl_aload_n dX1_may_20 rfl ?_
      refine gl_get (k := 4) dX1_may_21 rfl (rfl : vwCl[1]? = some (RX1, TX1, 21)) in_X1 (by decide) q1024 rfl ?_
      refine gl_iconst (v := nI 1) dX1_may_24 (by decide) ?_
      refine gl_iald (j := 1) dX1_may_25 rfl rfl (by omega) ?_
      refine gl_icmp_ge (tgt := 59) dX1_may_26 (by decide) (fun _ => ?_) (fun h => absurd ((by show y.2.2 23 1 ≤ nI m; rw [hL.q]; exact nI_le (Nat.le_refl _) (by omega))) h)
      refine gl_iload_n dX1_may_59 rfl ?_
      exact gl_iret dX1_may_60 rfl ⟨A, rfl, rfl⟩
  · unfold sp_may
    rw [if_neg (by simp [bI_fa h5])]
    refine gl_iconst (v := (-1)) dX1_may_8 (by decide) ?_
    exact gl_iret dX1_may_9 rfl ⟨y.2.2 28, rfl, rfl⟩
def suI (Q : QS) (q : Nat) : Nat → Int32
  | 0 => -9
  | c + 1 => if Q.2.2.1 (7 * q + c) = Q.2.1 then nI c else suI Q q c
def sp_sure (y : MY) (n m : Nat) (q : Int32) : Int32 × ((Nat → Int32) → MY) := if inR q 0 (y.2.2 23 1 - 1) then (suI (layQ y n m false) (ix q) n, fun A => mqS y A (layQ y n m false)) else (-1, fun _ => y)
theorem m_sure (hL : Lb (y.2.2 23) n m t) (q : Int32) : Ct yX1_sure gX1_sure (L + 15) 0 0 [.ref 18, .int q] (mM o y) (RtJ o (sp_sure y n m q)) := by
  refine Ct.of rfl rfl rfl rfl rfl ?_
  have h7 := hL.c7
  have h7q := hL.q7
  refine gl_aload_n dX1_sure_0 rfl ?_
  refine gl_iload_n dX1_sure_1 rfl ?_
  refine gl_callV (m_isQuestion L o y _) dX1_sure_2 q1196 q1198 qs55 q75 q1199 rfl hX1_isQuestion rfl (rfl : vwCl[1]? = some (RX1, TX1, 21)) rfl rfl (rmOk (by omega) rfl) ⟨by first | exact Nat.le_refl _ | exact Nat.zero_le _ | decide | (dsimp only [rm]; omega), by first | exact Nat.le_refl _ | exact Nat.zero_le _ | decide | (dsimp only [rm]; omega)⟩ (rt1 ?_)
  refine gl_if_ne (tgt := 10) dX1_sure_5 (by decide) (fun h5 => ?_) (fun h5 => ?_)
  · have hr := bI_tr h5
    unfold sp_sure
    rw [if_pos hr]
    rw [hL.q] at hr
    obtain ⟨q, hq, rfl⟩ := inR_n (by omega) hr
    rw [ix_nI (show q < 100 by omega)]
    refine gl_aload_n dX1_sure_10 rfl ?_
    refine gl_iconst (v := nI 0) dX1_sure_11 (by decide) ?_
    refine gl_callV (m_layM L o y hL false) dX1_sure_12 q1285 q1287 qs64 q75 q1288 rfl hX1_layMatchings rfl (rfl : vwCl[1]? = some (RX1, TX1, 21)) rfl rfl (rmOk (by omega) rfl) ⟨by first | exact Nat.le_refl _ | exact Nat.zero_le _ | decide | (dsimp only [rm]; omega), by first | exact Nat.le_refl _ | exact Nat.zero_le _ | decide | (dsimp only [rm]; omega)⟩ ?_
    rintro _ _ ⟨rfl, A, rfl⟩
    generalize layQ y n m false = Q
    refine gl_bipush (v := (-9)) dX1_sure_15 (by decide) ?_
    refine gl_istore_n dX1_sure_17 rfl rfl ?_
    refine gl_iconst (v := nI 0) dX1_sure_18 (by decide) ?_
    refine gl_istore_n dX1_sure_19 rfl rfl ?_
    refine gl_loop (fun c => [some (.ref 18), some (.int (nI q)), some (.int (suI Q q c)), some (.int (nI c))]) (fun _ => mM o (mqS y A Q)) n ?_ ?_
    · intro c hc ih
      refine gl_iload_n dX1_sure_20 rfl ?_
      refine gl_aload_n dX1_sure_21 rfl ?_
      refine gl_get (k := 4) dX1_sure_22 rfl (rfl : vwCl[1]? = some (RX1, TX1, 21)) in_X1 (by decide) q1024 rfl ?_
      refine gl_iconst (v := nI 0) dX1_sure_25 (by decide) ?_
      refine gl_iald (j := 0) dX1_sure_26 rfl rfl (by omega) ?_
      refine gl_icmp_ge (tgt := 60) dX1_sure_27 (by decide) (fun h => absurd h ((by show ¬ y.2.2 23 0 ≤ nI c; rw [hL.c]; exact nI_ge hc (by omega)))) (fun _ => ?_)
      refine gl_aload_n dX1_sure_30 rfl ?_
      refine gl_get (k := 16) dX1_sure_31 rfl (rfl : vwCl[1]? = some (RX1, TX1, 21)) in_X1 (by decide) q1036 rfl ?_
      refine gl_bipush (v := nI 7) dX1_sure_34 (by decide) ?_
      refine gl_iload_n dX1_sure_36 rfl ?_
      refine gl_imul dX1_sure_37 ?_
      refine gl_iload_n dX1_sure_38 rfl ?_
      refine gl_iadd dX1_sure_39 ?_
      refine gl_iald (j := ((7 * q) + c)) dX1_sure_40 rfl (by simp only [nI_add, nI_mul]) (by omega) ?_
      refine gl_aload_n dX1_sure_41 rfl ?_
      refine gl_get (k := 17) dX1_sure_42 rfl (rfl : vwCl[1]? = some (RX1, TX1, 21)) in_X1 (by decide) q1037 rfl ?_
      refine gl_icmp_ne (tgt := 52) dX1_sure_45 (by decide) (fun h45 => ?_) (fun h45 => ?_)
      · have z : ¬ Q.2.2.1 (7 * q + c) = Q.2.1 := h45
        refine gl_iload_n dX1_sure_52 rfl ?_
        refine gl_istore_n dX1_sure_53 rfl rfl ?_
        refine gl_iinc (v := (nI (c + 1))) dX1_sure_54 rfl (nI_1 _) rfl rfl ?_
        refine gl_goto (tgt := 20) dX1_sure_57 (by decide) ?_
        exact gl_lcs (by simp only [suI]; rw [if_neg z]; rfl) ih
      · have z : Q.2.2.1 (7 * q + c) = Q.2.1 := h45
        refine gl_iload_n dX1_sure_48 rfl ?_
        refine gl_goto (tgt := 53) dX1_sure_49 (by decide) ?_
        refine gl_istore_n dX1_sure_53 rfl rfl ?_
        refine gl_iinc (v := (nI (c + 1))) dX1_sure_54 rfl (nI_1 _) rfl rfl ?_
        refine gl_goto (tgt := 20) dX1_sure_57 (by decide) ?_
        exact gl_lcs (by simp only [suI]; rw [if_pos z]; rfl) ih
    · refine gl_iload_n dX1_sure_20 rfl ?_
      refine gl_aload_n dX1_sure_21 rfl ?_
      refine gl_get (k := 4) dX1_sure_22 rfl (rfl : vwCl[1]? = some (RX1, TX1, 21)) in_X1 (by decide) q1024 rfl ?_
      refine gl_iconst (v := nI 0) dX1_sure_25 (by decide) ?_
      refine gl_iald (j := 0) dX1_sure_26 rfl rfl (by omega) ?_
      refine gl_icmp_ge (tgt := 60) dX1_sure_27 (by decide) (fun _ => ?_) (fun h => absurd ((by show y.2.2 23 0 ≤ nI n; rw [hL.c]; exact nI_le (Nat.le_refl _) (by omega))) h)
      refine gl_iload_n dX1_sure_60 rfl ?_
      exact gl_iret dX1_sure_61 rfl ⟨A, rfl, rfl⟩
  · unfold sp_sure
    rw [if_neg (by simp [bI_fa h5])]
    refine gl_iconst (v := (-1)) dX1_sure_8 (by decide) ?_
    exact gl_iret dX1_sure_9 rfl ⟨y.2.2 28, rfl, rfl⟩
end MW

