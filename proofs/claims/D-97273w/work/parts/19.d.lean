/-! the model's public methods, first part -/
set_option maxRecDepth 100000
theorem inR_nat {v : Int32} {a b : Nat} (ha : a < 2 ^ 31) (hb : b < 2 ^ 31) (h : inR v (nI a) (nI b) = true) : ∃ k, a ≤ k ∧ k ≤ b ∧ v = nI k := by
  simp only [inR, Bool.and_eq_true, decide_eq_true_eq] at h
  have h0 : ¬ v < 0 := by
    have e1 := Int32.le_iff_toInt_le.mp h.1
    rw [nI_toInt ha] at e1
    intro q
    have e2 := Int32.lt_iff_toInt_lt.mp q
    have e3 : (0 : Int32).toInt = 0 := rfl
    omega
  obtain ⟨k, hk, rfl⟩ := nI_of h0
  exact ⟨k, (nI_leI ha hk).mp h.1, (nI_leI hk hb).mp h.2, rfl⟩
theorem inR_no {v : Int32} : inR v 0 (nI 0 - 1) = false := by
  by_cases h : inR v 0 (nI 0 - 1) = true
  · simp only [inR, Bool.and_eq_true, decide_eq_true_eq] at h
    have e1 := Int32.le_iff_toInt_le.mp h.1
    have e2 := Int32.le_iff_toInt_le.mp h.2
    have e3 : (0 : Int32).toInt = 0 := rfl
    have e4 : (nI 0 - 1).toInt = -1 := by decide
    omega
  · simpa using h
/-- an index within n -/
theorem inR_n {v : Int32} {n : Nat} (hn : n < 2 ^ 31) (h : inR v 0 (nI n - 1) = true) : ∃ k, k < n ∧ v = nI k := by
  cases n with
  | zero => rw [inR_no] at h; cases h
  | succ n =>
    rw [nI_pred] at h
    obtain ⟨k, -, h2, h3⟩ := inR_nat (a := 0) (by omega) (show n < 2 ^ 31 by omega) h
    exact ⟨k, by omega, h3⟩
theorem inR_k {n k : Nat} (hn : n < 2 ^ 31) (h : k < n) : inR (nI k) 0 (nI n - 1) = true := by
  cases n with
  | zero => omega
  | succ n =>
    rw [nI_pred]
    simp only [inR, Bool.and_eq_true, decide_eq_true_eq]
    exact ⟨nI_le (a := 0) (by omega) (by omega), nI_le (by omega) (by omega)⟩
theorem bI_tr {c : Bool} (h : ¬ bI c = 0) : c = true := by cases c <;> simp_all [bI, nI]
theorem bI_fa {c : Bool} (h : bI c = 0) : c = false := by cases c <;> simp_all [bI, nI]
/-- an answer and the model's world behind it -/
def RtP (o : OY) (p : Int32 × MY) : Option Value → Mem → Prop := Rt (some (.int p.1)) (mM o p.2)
def sfnd (y : MY) (f : Nat) : Int32 × MY := (-3, sA (sI y 10 (nI f)) 26 (upd (y.2.2 26) f (y.2.2 26 f + 1)))
def sask (y : MY) (v : Int32) : Int32 × MY := (nI 1, sI y 7 v)
theorem rtP {γ : GG} {R : Room} {K : Option Value → Mem → Prop} {cells slots pc : Nat} {lc : List (Option Value)} {st : List Value} {o : OY} {p : Int32 × MY} (k : GL γ R K cells slots pc lc (.int p.1 :: st) (mM o p.2)) : ∀ v μ1, RtP o p v μ1 → GL γ R K cells slots pc lc (v.toList ++ st) μ1 := rt1 (r := some (.int p.1)) k
section MP
variable (L : Nat) (o : OY) (y : MY) {n m t : Nat}
def sp_card (y : MY) (m : Nat) (c what : Int32) : Int32 × MY := if inR c 0 (y.2.2 23 0 - 1) && inR what 0 5 then sask y (toldC (y.2.2 23) m (ix c) what) else (-1, y)
theorem m_card (hL : Lb (y.2.2 23) n m t) (c what : Int32) : Ct yX1_card gX1_card (L + 12) 0 0 [.ref 18, .int c, .int what] (mM o y) (RtP o (sp_card y m c what)) := by
  refine Ct.of rfl rfl rfl rfl rfl ?_
  refine gl_aload_n dX1_card_0 rfl ?_
  refine gl_iload_n dX1_card_1 rfl ?_
  refine gl_callV (m_isCard L o y _) dX1_card_2 q1176 q1178 qs51 q75 q1179 rfl hX1_isCard rfl (rfl : vwCl[1]? = some (RX1, TX1, 21)) rfl rfl (rmOk (by omega) rfl) ⟨by first | exact Nat.le_refl _ | exact Nat.zero_le _ | decide | (dsimp only [rm]; omega), by first | exact Nat.le_refl _ | exact Nat.zero_le _ | decide | (dsimp only [rm]; omega)⟩ (rt1 ?_)
  refine gl_if_eq (tgt := 33) dX1_card_5 (by decide) (fun h5 => ?_) (fun h5 => ?_)
  · rw [show sp_card y m c what = (-1, y) by simp_all [sp_card, bI_ne]]
    refine gl_iconst (v := (-1)) dX1_card_33 (by decide) ?_
    exact gl_iret dX1_card_34 rfl ⟨rfl, rfl⟩
  · refine gl_iload_n dX1_card_8 rfl ?_
    refine gl_i2l dX1_card_9 ?_
    refine gl_lconst (v := 0) dX1_card_10 (by decide) ?_
    refine gl_ldc2 (v := 5) q1092 dX1_card_11 ?_
    refine gl_callS (m_in_i L (mM o y) _ 0 5 rfl rfl) dX1_card_14 q1093 q1094 q75 q1095 rfl hX1_in rfl rfl (rmOk (by omega) rfl) ⟨by first | exact Nat.le_refl _ | exact Nat.zero_le _ | decide | (dsimp only [rm]; omega), by first | exact Nat.le_refl _ | exact Nat.zero_le _ | decide | (dsimp only [rm]; omega)⟩ (rt1 ?_)
    refine gl_if_eq (tgt := 33) dX1_card_17 (by decide) (fun h17 => ?_) (fun h17 => ?_)
    · rw [show sp_card y m c what = (-1, y) by simp_all [sp_card, bI_ne]]
      refine gl_iconst (v := (-1)) dX1_card_33 (by decide) ?_
      exact gl_iret dX1_card_34 rfl ⟨rfl, rfl⟩
    · rw [show sp_card y m c what = sask y (toldC (y.2.2 23) m (ix c) what) by simp_all [sp_card, bI_ne]]
      have hc : inR c 0 (nI n - 1) = true := by rw [← hL.c]; simp_all [bI_ne]
      obtain ⟨k, hk, rfl⟩ := inR_n (by have := hL.c7; omega) hc
      have h7 := hL.c7
      rw [ix_nI (show k < 100 by omega)]
      refine gl_aload_n dX1_card_20 rfl ?_
      refine gl_aload_n dX1_card_21 rfl ?_
      refine gl_iload_n dX1_card_22 rfl ?_
      refine gl_iload_n dX1_card_23 rfl ?_
      refine gl_callV (m_toldCard L o y hL k what (by omega)) dX1_card_24 q1180 q1182 qs52 q75 q1183 rfl hX1_toldCard rfl (rfl : vwCl[1]? = some (RX1, TX1, 21)) rfl rfl (rmOk (by omega) rfl) ⟨by first | exact Nat.le_refl _ | exact Nat.zero_le _ | decide | (dsimp only [rm]; omega), by first | exact Nat.le_refl _ | exact Nat.zero_le _ | decide | (dsimp only [rm]; omega)⟩ (rt1 ?_)
      refine gl_callV (m_tell L o y _) dX1_card_27 q1104 q1106 qs45 q75 q1107 rfl hX1_tell rfl (rfl : vwCl[1]? = some (RX1, TX1, 21)) rfl rfl (rmOk (by omega) rfl) ⟨by first | exact Nat.le_refl _ | exact Nat.zero_le _ | decide | (dsimp only [rm]; omega), by first | exact Nat.le_refl _ | exact Nat.zero_le _ | decide | (dsimp only [rm]; omega)⟩ (rt1 ?_)
      refine gl_goto (tgt := 34) dX1_card_30 (by decide) ?_
      exact gl_iret dX1_card_34 rfl ⟨rfl, rfl⟩
def sp_question (y : MY) (q what : Int32) : Int32 × MY := if inR q 0 (y.2.2 23 1 - 1) && inR what 0 5 then sask y (y.2.2 23 (31 + 7 * ix what + ix q)) else (-1, y)
theorem m_question (hL : Lb (y.2.2 23) n m t) (q what : Int32) : Ct yX1_question gX1_question (L + 12) 0 0 [.ref 18, .int q, .int what] (mM o y) (RtP o (sp_question y q what)) := by
  refine Ct.of rfl rfl rfl rfl rfl ?_
  refine gl_aload_n dX1_question_0 rfl ?_
  refine gl_iload_n dX1_question_1 rfl ?_
  refine gl_callV (m_isQuestion L o y _) dX1_question_2 q1196 q1198 qs55 q75 q1199 rfl hX1_isQuestion rfl (rfl : vwCl[1]? = some (RX1, TX1, 21)) rfl rfl (rmOk (by omega) rfl) ⟨by first | exact Nat.le_refl _ | exact Nat.zero_le _ | decide | (dsimp only [rm]; omega), by first | exact Nat.le_refl _ | exact Nat.zero_le _ | decide | (dsimp only [rm]; omega)⟩ (rt1 ?_)
  refine gl_if_eq (tgt := 41) dX1_question_5 (by decide) (fun h5 => ?_) (fun h5 => ?_)
  · rw [show sp_question y q what = (-1, y) by simp_all [sp_question, bI_ne]]
    refine gl_iconst (v := (-1)) dX1_question_41 (by decide) ?_
    exact gl_iret dX1_question_42 rfl ⟨rfl, rfl⟩
  · refine gl_iload_n dX1_question_8 rfl ?_
    refine gl_i2l dX1_question_9 ?_
    refine gl_lconst (v := 0) dX1_question_10 (by decide) ?_
    refine gl_ldc2 (v := 5) q1092 dX1_question_11 ?_
    refine gl_callS (m_in_i L (mM o y) _ 0 5 rfl rfl) dX1_question_14 q1093 q1094 q75 q1095 rfl hX1_in rfl rfl (rmOk (by omega) rfl) ⟨by first | exact Nat.le_refl _ | exact Nat.zero_le _ | decide | (dsimp only [rm]; omega), by first | exact Nat.le_refl _ | exact Nat.zero_le _ | decide | (dsimp only [rm]; omega)⟩ (rt1 ?_)
    refine gl_if_eq (tgt := 41) dX1_question_17 (by decide) (fun h17 => ?_) (fun h17 => ?_)
    · rw [show sp_question y q what = (-1, y) by simp_all [sp_question, bI_ne]]
      refine gl_iconst (v := (-1)) dX1_question_41 (by decide) ?_
      exact gl_iret dX1_question_42 rfl ⟨rfl, rfl⟩
    · rw [show sp_question y q what = sask y (y.2.2 23 (31 + 7 * ix what + ix q)) by simp_all [sp_question, bI_ne]]
      have hc : inR q 0 (nI m - 1) = true := by rw [← hL.q]; simp_all [bI_ne]
      have hw : inR what (nI 0) (nI 5) = true := bI_tr h17
      obtain ⟨k, hk, rfl⟩ := inR_n (by have := hL.q7; omega) hc
      have h7 := hL.q7
      obtain ⟨wh, -, hw, rfl⟩ := inR_nat (by omega) (by omega) hw
      rw [ix_nI (show k < 100 by omega), ix_nI (show wh < 100 by omega)]
      refine gl_aload_n dX1_question_20 rfl ?_
      refine gl_aload_n dX1_question_21 rfl ?_
      refine gl_get (k := 4) dX1_question_22 rfl (rfl : vwCl[1]? = some (RX1, TX1, 21)) in_X1 (by decide) q1024 rfl ?_
      refine gl_bipush (v := nI 31) dX1_question_25 (by decide) ?_
      refine gl_bipush (v := nI 7) dX1_question_27 (by decide) ?_
      refine gl_iload_n dX1_question_29 rfl ?_
      refine gl_imul dX1_question_30 ?_
      refine gl_iadd dX1_question_31 ?_
      refine gl_iload_n dX1_question_32 rfl ?_
      refine gl_iadd dX1_question_33 ?_
      refine gl_iald (j := ((31 + (7 * wh)) + k)) dX1_question_34 rfl (by simp only [nI_add, nI_mul]) (by omega) ?_
      refine gl_callV (m_tell L o y _) dX1_question_35 q1104 q1106 qs45 q75 q1107 rfl hX1_tell rfl (rfl : vwCl[1]? = some (RX1, TX1, 21)) rfl rfl (rmOk (by omega) rfl) ⟨by first | exact Nat.le_refl _ | exact Nat.zero_le _ | decide | (dsimp only [rm]; omega), by first | exact Nat.le_refl _ | exact Nat.zero_le _ | decide | (dsimp only [rm]; omega)⟩ (rt1 ?_)
      refine gl_goto (tgt := 42) dX1_question_38 (by decide) ?_
      exact gl_iret dX1_question_42 rfl ⟨rfl, rfl⟩
def sp_put (y : MY) (ok : Bool) (p : Nat) (v : Int32) : Int32 × MY := if ok then (y.2.2 23 p, sA y 23 (upd (y.2.2 23) p v)) else (-1, y)
def sp_shelve (y : MY) (c s : Int32) : Int32 × MY := sp_put y (inR c 0 (y.2.2 23 0 - 1) && inR s 0 3) (17 + ix c) s
theorem m_shelve (hL : Lb (y.2.2 23) n m t) (c s : Int32) : Ct yX1_shelve gX1_shelve (L + 12) 0 0 [.ref 18, .int c, .int s] (mM o y) (RtP o (sp_shelve y c s)) := by
  refine Ct.of rfl rfl rfl rfl rfl ?_
  refine gl_aload_n dX1_shelve_0 rfl ?_
  refine gl_iload_n dX1_shelve_1 rfl ?_
  refine gl_callV (m_isCard L o y _) dX1_shelve_2 q1176 q1178 qs51 q75 q1179 rfl hX1_isCard rfl (rfl : vwCl[1]? = some (RX1, TX1, 21)) rfl rfl (rmOk (by omega) rfl) ⟨by first | exact Nat.le_refl _ | exact Nat.zero_le _ | decide | (dsimp only [rm]; omega), by first | exact Nat.le_refl _ | exact Nat.zero_le _ | decide | (dsimp only [rm]; omega)⟩ (rt1 ?_)
  refine gl_if_eq (tgt := 32) dX1_shelve_5 (by decide) (fun h5 => ?_) (fun h5 => ?_)
  · rw [show sp_shelve y c s = (-1, y) by simp_all [sp_shelve, sp_put, bI_ne]]
    refine gl_iconst (v := (-1)) dX1_shelve_32 (by decide) ?_
    exact gl_iret dX1_shelve_33 rfl ⟨rfl, rfl⟩
  · refine gl_iload_n dX1_shelve_8 rfl ?_
    refine gl_i2l dX1_shelve_9 ?_
    refine gl_lconst (v := 0) dX1_shelve_10 (by decide) ?_
    refine gl_ldc2 (v := 3) q1131 dX1_shelve_11 ?_
    refine gl_callS (m_in_i L (mM o y) _ 0 3 rfl rfl) dX1_shelve_14 q1093 q1094 q75 q1095 rfl hX1_in rfl rfl (rmOk (by omega) rfl) ⟨by first | exact Nat.le_refl _ | exact Nat.zero_le _ | decide | (dsimp only [rm]; omega), by first | exact Nat.le_refl _ | exact Nat.zero_le _ | decide | (dsimp only [rm]; omega)⟩ (rt1 ?_)
    refine gl_if_eq (tgt := 32) dX1_shelve_17 (by decide) (fun h17 => ?_) (fun h17 => ?_)
    · rw [show sp_shelve y c s = (-1, y) by simp_all [sp_shelve, sp_put, bI_ne]]
      refine gl_iconst (v := (-1)) dX1_shelve_32 (by decide) ?_
      exact gl_iret dX1_shelve_33 rfl ⟨rfl, rfl⟩
    · have hc : inR c 0 (nI n - 1) = true := by rw [← hL.c]; simp_all [bI_ne]
      rw [show sp_shelve y c s = (y.2.2 23 (17 + ix c), sA y 23 (upd (y.2.2 23) (17 + ix c) s)) by simp_all [sp_shelve, sp_put, bI_ne]]
      obtain ⟨k, hk, rfl⟩ := inR_n (by have := hL.c7; omega) hc
      have h7 := hL.c7
      rw [ix_nI (show k < 100 by omega)]
      refine gl_aload_n dX1_shelve_20 rfl ?_
      refine gl_bipush (v := nI 17) dX1_shelve_21 (by decide) ?_
      refine gl_iload_n dX1_shelve_23 rfl ?_
      refine gl_iadd dX1_shelve_24 ?_
      refine gl_iload_n dX1_shelve_25 rfl ?_
      rw [nI_add]
      refine gl_callV (m_puts L o y (17 + k) s (by omega)) dX1_shelve_26 q1219 q1221 qs58 q75 q1222 rfl hX1_puts rfl (rfl : vwCl[1]? = some (RX1, TX1, 21)) rfl rfl (rmOk (by omega) rfl) ⟨by first | exact Nat.le_refl _ | exact Nat.zero_le _ | decide | (dsimp only [rm]; omega), by first | exact Nat.le_refl _ | exact Nat.zero_le _ | decide | (dsimp only [rm]; omega)⟩ (rt1 ?_)
      refine gl_goto (tgt := 33) dX1_shelve_29 (by decide) ?_
      exact gl_iret dX1_shelve_33 rfl ⟨rfl, rfl⟩
def sp_age (y : MY) (c s : Int32) : Int32 × MY := sp_put y (inR c 0 (y.2.2 23 0 - 1) && inR s 0 9) (24 + ix c) s
theorem m_age (hL : Lb (y.2.2 23) n m t) (c s : Int32) : Ct yX1_age gX1_age (L + 12) 0 0 [.ref 18, .int c, .int s] (mM o y) (RtP o (sp_age y c s)) := by
  refine Ct.of rfl rfl rfl rfl rfl ?_
  refine gl_aload_n dX1_age_0 rfl ?_
  refine gl_iload_n dX1_age_1 rfl ?_
  refine gl_callV (m_isCard L o y _) dX1_age_2 q1176 q1178 qs51 q75 q1179 rfl hX1_isCard rfl (rfl : vwCl[1]? = some (RX1, TX1, 21)) rfl rfl (rmOk (by omega) rfl) ⟨by first | exact Nat.le_refl _ | exact Nat.zero_le _ | decide | (dsimp only [rm]; omega), by first | exact Nat.le_refl _ | exact Nat.zero_le _ | decide | (dsimp only [rm]; omega)⟩ (rt1 ?_)
  refine gl_if_eq (tgt := 32) dX1_age_5 (by decide) (fun h5 => ?_) (fun h5 => ?_)
  · rw [show sp_age y c s = (-1, y) by simp_all [sp_age, sp_put, bI_ne]]
    refine gl_iconst (v := (-1)) dX1_age_32 (by decide) ?_
    exact gl_iret dX1_age_33 rfl ⟨rfl, rfl⟩
  · refine gl_iload_n dX1_age_8 rfl ?_
    refine gl_i2l dX1_age_9 ?_
    refine gl_lconst (v := 0) dX1_age_10 (by decide) ?_
    refine gl_ldc2 (v := 9) q1227 dX1_age_11 ?_
    refine gl_callS (m_in_i L (mM o y) _ 0 9 rfl rfl) dX1_age_14 q1093 q1094 q75 q1095 rfl hX1_in rfl rfl (rmOk (by omega) rfl) ⟨by first | exact Nat.le_refl _ | exact Nat.zero_le _ | decide | (dsimp only [rm]; omega), by first | exact Nat.le_refl _ | exact Nat.zero_le _ | decide | (dsimp only [rm]; omega)⟩ (rt1 ?_)
    refine gl_if_eq (tgt := 32) dX1_age_17 (by decide) (fun h17 => ?_) (fun h17 => ?_)
    · rw [show sp_age y c s = (-1, y) by simp_all [sp_age, sp_put, bI_ne]]
      refine gl_iconst (v := (-1)) dX1_age_32 (by decide) ?_
      exact gl_iret dX1_age_33 rfl ⟨rfl, rfl⟩
    · have hc : inR c 0 (nI n - 1) = true := by rw [← hL.c]; simp_all [bI_ne]
      rw [show sp_age y c s = (y.2.2 23 (24 + ix c), sA y 23 (upd (y.2.2 23) (24 + ix c) s)) by simp_all [sp_age, sp_put, bI_ne]]
      obtain ⟨k, hk, rfl⟩ := inR_n (by have := hL.c7; omega) hc
      have h7 := hL.c7
      rw [ix_nI (show k < 100 by omega)]
      refine gl_aload_n dX1_age_20 rfl ?_
      refine gl_bipush (v := nI 24) dX1_age_21 (by decide) ?_
      refine gl_iload_n dX1_age_23 rfl ?_
      refine gl_iadd dX1_age_24 ?_
      refine gl_iload_n dX1_age_25 rfl ?_
      rw [nI_add]
      refine gl_callV (m_puts L o y (24 + k) s (by omega)) dX1_age_26 q1219 q1221 qs58 q75 q1222 rfl hX1_puts rfl (rfl : vwCl[1]? = some (RX1, TX1, 21)) rfl rfl (rmOk (by omega) rfl) ⟨by first | exact Nat.le_refl _ | exact Nat.zero_le _ | decide | (dsimp only [rm]; omega), by first | exact Nat.le_refl _ | exact Nat.zero_le _ | decide | (dsimp only [rm]; omega)⟩ (rt1 ?_)
      refine gl_goto (tgt := 33) dX1_age_29 (by decide) ?_
      exact gl_iret dX1_age_33 rfl ⟨rfl, rfl⟩
def sp_truth (y : MY) (q v : Int32) : Int32 × MY := sp_put y (inR q 0 (y.2.2 23 1 - 1) && (v == -9 || inR v 0 9)) (59 + ix q) v
theorem m_truth (hL : Lb (y.2.2 23) n m t) (q v : Int32) : Ct yX1_truth gX1_truth (L + 12) 0 0 [.ref 18, .int q, .int v] (mM o y) (RtP o (sp_truth y q v)) := by
  refine Ct.of rfl rfl rfl rfl rfl ?_
  refine gl_aload_n dX1_truth_0 rfl ?_
  refine gl_iload_n dX1_truth_1 rfl ?_
  refine gl_callV (m_isQuestion L o y _) dX1_truth_2 q1196 q1198 qs55 q75 q1199 rfl hX1_isQuestion rfl (rfl : vwCl[1]? = some (RX1, TX1, 21)) rfl rfl (rmOk (by omega) rfl) ⟨by first | exact Nat.le_refl _ | exact Nat.zero_le _ | decide | (dsimp only [rm]; omega), by first | exact Nat.le_refl _ | exact Nat.zero_le _ | decide | (dsimp only [rm]; omega)⟩ (rt1 ?_)
  refine gl_if_eq (tgt := 38) dX1_truth_5 (by decide) (fun h5 => ?_) (fun h5 => ?_)
  · rw [show sp_truth y q v = (-1, y) by simp_all [sp_truth, sp_put, bI_ne]]
    refine gl_iconst (v := (-1)) dX1_truth_38 (by decide) ?_
    exact gl_iret dX1_truth_39 rfl ⟨rfl, rfl⟩
  · have hc : inR q 0 (nI m - 1) = true := by rw [← hL.q]; simp_all [bI_ne]
    have h7 := hL.q7
    refine gl_iload_n dX1_truth_8 rfl ?_
    refine gl_bipush (v := (-9)) dX1_truth_9 (by decide) ?_
    refine gl_icmp_eq (tgt := 26) dX1_truth_11 (by decide) (fun h11 => ?_) (fun h11 => ?_)
    · rw [show sp_truth y q v = (y.2.2 23 (59 + ix q), sA y 23 (upd (y.2.2 23) (59 + ix q) v)) by simp_all [sp_truth, sp_put, bI_ne]]
      obtain ⟨k, hk, rfl⟩ := inR_n (by omega) hc
      rw [ix_nI (show k < 100 by omega)]
      refine gl_aload_n dX1_truth_26 rfl ?_
      refine gl_bipush (v := nI 59) dX1_truth_27 (by decide) ?_
      refine gl_iload_n dX1_truth_29 rfl ?_
      refine gl_iadd dX1_truth_30 ?_
      refine gl_iload_n dX1_truth_31 rfl ?_
      rw [nI_add]
      refine gl_callV (m_puts L o y (59 + k) v (by omega)) dX1_truth_32 q1219 q1221 qs58 q75 q1222 rfl hX1_puts rfl (rfl : vwCl[1]? = some (RX1, TX1, 21)) rfl rfl (rmOk (by omega) rfl) ⟨by first | exact Nat.le_refl _ | exact Nat.zero_le _ | decide | (dsimp only [rm]; omega), by first | exact Nat.le_refl _ | exact Nat.zero_le _ | decide | (dsimp only [rm]; omega)⟩ (rt1 ?_)
      refine gl_goto (tgt := 39) dX1_truth_35 (by decide) ?_
      exact gl_iret dX1_truth_39 rfl ⟨rfl, rfl⟩
    · refine gl_iload_n dX1_truth_14 rfl ?_
      refine gl_i2l dX1_truth_15 ?_
      refine gl_lconst (v := 0) dX1_truth_16 (by decide) ?_
      refine gl_ldc2 (v := 9) q1227 dX1_truth_17 ?_
      refine gl_callS (m_in_i L (mM o y) _ 0 9 rfl rfl) dX1_truth_20 q1093 q1094 q75 q1095 rfl hX1_in rfl rfl (rmOk (by omega) rfl) ⟨by first | exact Nat.le_refl _ | exact Nat.zero_le _ | decide | (dsimp only [rm]; omega), by first | exact Nat.le_refl _ | exact Nat.zero_le _ | decide | (dsimp only [rm]; omega)⟩ (rt1 ?_)
      refine gl_if_eq (tgt := 38) dX1_truth_23 (by decide) (fun h23 => ?_) (fun h23 => ?_)
      · rw [show sp_truth y q v = (-1, y) by simp_all [sp_truth, sp_put, bI_ne]]
        refine gl_iconst (v := (-1)) dX1_truth_38 (by decide) ?_
        exact gl_iret dX1_truth_39 rfl ⟨rfl, rfl⟩
      · rw [show sp_truth y q v = (y.2.2 23 (59 + ix q), sA y 23 (upd (y.2.2 23) (59 + ix q) v)) by simp_all [sp_truth, sp_put, bI_ne]]
        obtain ⟨k, hk, rfl⟩ := inR_n (by omega) hc
        rw [ix_nI (show k < 100 by omega)]
        refine gl_aload_n dX1_truth_26 rfl ?_
        refine gl_bipush (v := nI 59) dX1_truth_27 (by decide) ?_
        refine gl_iload_n dX1_truth_29 rfl ?_
        refine gl_iadd dX1_truth_30 ?_
        refine gl_iload_n dX1_truth_31 rfl ?_
        rw [nI_add]
        refine gl_callV (m_puts L o y (59 + k) v (by omega)) dX1_truth_32 q1219 q1221 qs58 q75 q1222 rfl hX1_puts rfl (rfl : vwCl[1]? = some (RX1, TX1, 21)) rfl rfl (rmOk (by omega) rfl) ⟨by first | exact Nat.le_refl _ | exact Nat.zero_le _ | decide | (dsimp only [rm]; omega), by first | exact Nat.le_refl _ | exact Nat.zero_le _ | decide | (dsimp only [rm]; omega)⟩ (rt1 ?_)
        refine gl_goto (tgt := 39) dX1_truth_35 (by decide) ?_
        exact gl_iret dX1_truth_39 rfl ⟨rfl, rfl⟩
end MP

