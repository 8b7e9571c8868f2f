/-! faults, libraries, keeping: the model -/
set_option maxRecDepth 100000
theorem up_up (μ : Mem) (n : Nat) (c d : MC) : up (up μ n c) n d = up μ n d := by
  cases n with
  | zero => rfl
  | succ n =>
    simp only [up]
    by_cases h1 : n < 17
    · simp only [if_pos h1, List.set_set]
    · by_cases h2 : n < 32
      · simp only [if_neg h1, if_pos h2, List.set_set]
      · simp only [if_neg h1, if_neg h2]
        congr 4
        funext j
        simp only [va_up]
        split <;> rfl
theorem up_same {μ : Mem} {n : Nat} {c : MC} (h : lk μ n = some c) : up μ n c = μ := by
  obtain ⟨a, b, x, m, p⟩ := μ
  cases n with
  | zero => rfl
  | succ n =>
    simp only [up, lk] at h ⊢
    by_cases h1 : n < 17
    · rw [if_pos h1] at h ⊢
      obtain ⟨q, e⟩ := List.getElem?_eq_some_iff.mp h
      rw [← e, List.set_getElem_self]
    · rw [if_neg h1] at h ⊢
      by_cases h2 : n < 32
      · rw [if_pos h2] at h ⊢
        obtain ⟨q, e⟩ := List.getElem?_eq_some_iff.mp h
        rw [← e, List.set_getElem_self]
      · rw [if_neg h2] at h ⊢
        congr 4
        funext j
        simp only [va_up]
        split
        · rename_i hj; rw [hj, h]
        · rfl
theorem m_copies (L : Nat) (μ : Mem) (a b i j ka kb : Nat) (f g : Nat → Int32) (ha : lk μ a = some (.inl (0, ka, f))) (hb : lk μ b = some (.inl (0, kb, g))) (hab : a ≠ b) (hi : i + 393 ≤ ka) (hj : j + 393 ≤ kb) (hk : ka ≤ 2000) (hkb : kb ≤ 2000) : Ct yX1_copies gX1_copies (L + 10) 0 0 [.ref a, .int (nI i), .ref b, .int (nI j)] μ (Rt none (up μ b (.inl (0, kb, va_cpy f g i j 393)))) := by
  refine Ct.of rfl rfl rfl rfl rfl ?_
  refine gl_iconst (v := nI 0) dX1_copies_0 (by decide) ?_
  refine gl_istore dX1_copies_1 rfl rfl ?_
  refine gl_mem (μ1 := up μ b (.inl (0, kb, va_cpy f g i j 0))) (by rw [cpy_0, up_same hb]) ?_
  refine gl_loop (fun k => [some (.ref a), some (.int (nI i)), some (.ref b), some (.int (nI j)), some (.int (nI k))]) (fun k => up μ b (.inl (0, kb, va_cpy f g i j k))) 393 ?_ ?_
  · intro k hk ih
    have la : lk (up μ b (.inl (0, kb, va_cpy f g i j k))) a = some (.inl (0, ka, f)) := by rw [lk_up hb, if_neg hab]; exact ha
    have lb : lk (up μ b (.inl (0, kb, va_cpy f g i j k))) b = some (.inl (0, kb, va_cpy f g i j k)) := by rw [lk_up hb, if_pos rfl]
    refine gl_iload dX1_copies_3 rfl ?_
    refine gl_sipush (v := nI 393) dX1_copies_5 (by decide) ?_
    refine gl_icmp_ge (tgt := 29) dX1_copies_8 (by decide) (fun h => absurd h (nI_ge hk (by omega))) (fun _ => ?_)
    refine gl_aload_n dX1_copies_11 rfl ?_
    refine gl_iload_n dX1_copies_12 rfl ?_
    refine gl_iload dX1_copies_13 rfl ?_
    refine gl_iadd dX1_copies_15 ?_
    refine gl_aload_n dX1_copies_16 rfl ?_
    refine gl_iload_n dX1_copies_17 rfl ?_
    refine gl_iload dX1_copies_18 rfl ?_
    refine gl_iadd dX1_copies_20 ?_
    refine gl_iald (j := (i+k)) dX1_copies_21 la (by simp only [nI_add]) (by omega) ?_
    refine gl_iast (j := (j+k)) dX1_copies_22 lb (by simp only [nI_add]) (by omega) ?_
    refine gl_mem (μ1 := up μ b (.inl (0, kb, va_cpy f g i j (k + 1)))) (by rw [up_up, ← cpy_s]) ?_
    refine gl_iinc (v := (nI (k + 1))) dX1_copies_23 rfl (nI_1 _) rfl rfl ?_
    refine gl_goto (tgt := 3) dX1_copies_26 (by decide) ?_
    exact ih
  · refine gl_iload dX1_copies_3 rfl ?_
    refine gl_sipush (v := nI 393) dX1_copies_5 (by decide) ?_
    refine gl_icmp_ge (tgt := 29) dX1_copies_8 (by decide) (fun _ => ?_) (fun h => absurd (nI_le (Nat.le_refl _) (by omega)) h)
    exact gl_vret dX1_copies_29 rfl ⟨rfl, rfl⟩
section MV
variable (L : Nat) (o : OY) (y : MY) {n m t : Nat}
def tsz (y : MY) (r : Int32) : Nat := ix (y.2.2 21 (ix r))
def sp_fault (y : MY) (r : Int32) : Int32 × MY := if inR r 0 3 then (if y.2.2 21 (ix r) < 0 then sfnd y 1 else (rdA (rdR y (ix r) (tsz y r)), rdS y (rdR y (ix r) (tsz y r)).2)) else (-1, y)
theorem m_fault (hS : szs (y.2.2 21) 4 80) (r : Int32) : Ct yX1_fault gX1_fault (L + 14) 0 0 [.ref 18, .int r] (mM o y) (RtP o (sp_fault y r)) := by
  refine Ct.of rfl rfl rfl rfl rfl ?_
  refine gl_iload_n dX1_fault_0 rfl ?_
  refine gl_callS (m_isText L _ _) dX1_fault_1 q1128 q1129 q75 q1130 rfl hX1_isText rfl rfl (rmOk (by omega) rfl) ⟨by first | exact Nat.le_refl _ | exact Nat.zero_le _ | decide | (dsimp only [rm]; omega), by first | exact Nat.le_refl _ | exact Nat.zero_le _ | decide | (dsimp only [rm]; omega)⟩ (rt1 ?_)
  refine gl_if_ne (tgt := 9) dX1_fault_4 (by decide) (fun h4 => ?_) (fun h4 => ?_)
  · have hr := bI_tr h4
    obtain ⟨k, -, hk, rfl⟩ := inR_nat (a := 0) (b := 3) (by omega) (by omega) hr
    unfold sp_fault tsz
    rw [if_pos hr, ix_nI (show k < 100 by omega)]
    refine gl_aload_n dX1_fault_9 rfl ?_
    refine gl_get (k := 2) dX1_fault_10 rfl (rfl : vwCl[1]? = some (RX1, TX1, 21)) in_X1 (by decide) q1022 rfl ?_
    refine gl_iload_n dX1_fault_13 rfl ?_
    refine gl_iald (j := k) dX1_fault_14 rfl rfl (by omega) ?_
    refine gl_if_ge (tgt := 26) dX1_fault_15 (by decide) (fun h15 => ?_) (fun h15 => ?_)
    · rw [if_neg (k2_nlt h15)]
      obtain ⟨s, hs, e⟩ := sz_lt (by omega) hS (show k < 4 by omega) (k2_nlt h15)
      rw [e, ix_nI (show s < 100 by omega)]
      refine gl_aload_n dX1_fault_26 rfl ?_
      refine gl_iload_n dX1_fault_27 rfl ?_
      refine gl_callV (m_reads L o y k s (by omega) hs e) dX1_fault_28 q1140 q1142 qs46 q75 q1143 rfl hX1_reads rfl (rfl : vwCl[1]? = some (RX1, TX1, 21)) rfl rfl (rmOk (by omega) rfl) ⟨by first | exact Nat.le_refl _ | exact Nat.zero_le _ | decide | (dsimp only [rm]; omega), by first | exact Nat.le_refl _ | exact Nat.zero_le _ | decide | (dsimp only [rm]; omega)⟩ (rt1 ?_)
      exact gl_iret dX1_fault_31 rfl ⟨rfl, rfl⟩
    · rw [if_pos (k2_lt h15)]
      refine gl_aload_n dX1_fault_18 rfl ?_
      refine gl_iconst (v := nI 1) dX1_fault_19 (by decide) ?_
      refine gl_callV (m_found L o y (1) (by omega)) dX1_fault_20 q1096 q1098 qs44 q75 q1099 rfl hX1_found rfl (rfl : vwCl[1]? = some (RX1, TX1, 21)) rfl rfl (rmOk (by omega) rfl) ⟨by first | exact Nat.le_refl _ | exact Nat.zero_le _ | decide | (dsimp only [rm]; omega), by first | exact Nat.le_refl _ | exact Nat.zero_le _ | decide | (dsimp only [rm]; omega)⟩ (rt1 ?_)
      refine gl_goto (tgt := 31) dX1_fault_23 (by decide) ?_
      exact gl_iret dX1_fault_31 rfl ⟨rfl, rfl⟩
  · unfold sp_fault
    rw [if_neg (by simp [bI_fa h4])]
    refine gl_iconst (v := (-1)) dX1_fault_7 (by decide) ?_
    exact gl_iret dX1_fault_8 rfl ⟨rfl, rfl⟩
/-- the library laid: what was read, nothing kept -/
def libS (y : MY) (u : PS) : MY := sA (sA (rdS y u) 23 (va_cpy u.2 (y.2.2 23) 0 0 393)) 25 (fillI (y.2.2 25) 0 0 3)
def sp_library (y : MY) (r : Int32) : Int32 × MY := if inR r 0 3 then (if y.2.2 21 (ix r) < 0 then sfnd y 1 else if rdA (rdR y (ix r) (tsz y r)) = -9 then ((rdR y (ix r) (tsz y r)).2.2 0, libS y (rdR y (ix r) (tsz y r)).2) else (-4, rdS y (rdR y (ix r) (tsz y r)).2)) else (-1, y)
theorem m_library (hS : szs (y.2.2 21) 4 80) (r : Int32) : Ct yX1_library gX1_library (L + 14) 0 0 [.ref 18, .int r] (mM o y) (RtP o (sp_library y r)) := by
  refine Ct.of rfl rfl rfl rfl rfl ?_
  refine gl_iload_n dX1_library_0 rfl ?_
  refine gl_callS (m_isText L _ _) dX1_library_1 q1128 q1129 q75 q1130 rfl hX1_isText rfl rfl (rmOk (by omega) rfl) ⟨by first | exact Nat.le_refl _ | exact Nat.zero_le _ | decide | (dsimp only [rm]; omega), by first | exact Nat.le_refl _ | exact Nat.zero_le _ | decide | (dsimp only [rm]; omega)⟩ (rt1 ?_)
  refine gl_if_ne (tgt := 9) dX1_library_4 (by decide) (fun h4 => ?_) (fun h4 => ?_)
  · have hr := bI_tr h4
    obtain ⟨k, -, hk, rfl⟩ := inR_nat (a := 0) (b := 3) (by omega) (by omega) hr
    unfold sp_library tsz
    rw [if_pos hr, ix_nI (show k < 100 by omega)]
    refine gl_aload_n dX1_library_9 rfl ?_
    refine gl_get (k := 2) dX1_library_10 rfl (rfl : vwCl[1]? = some (RX1, TX1, 21)) in_X1 (by decide) q1022 rfl ?_
    refine gl_iload_n dX1_library_13 rfl ?_
    refine gl_iald (j := k) dX1_library_14 rfl rfl (by omega) ?_
    refine gl_if_ge (tgt := 24) dX1_library_15 (by decide) (fun h15 => ?_) (fun h15 => ?_)
    · rw [if_neg (k2_nlt h15)]
      obtain ⟨s, hs, e⟩ := sz_lt (by omega) hS (show k < 4 by omega) (k2_nlt h15)
      rw [e, ix_nI (show s < 100 by omega)]
      refine gl_aload_n dX1_library_24 rfl ?_
      refine gl_iload_n dX1_library_25 rfl ?_
      refine gl_callV (m_reads L o y k s (by omega) hs e) dX1_library_26 q1140 q1142 qs46 q75 q1143 rfl hX1_reads rfl (rfl : vwCl[1]? = some (RX1, TX1, 21)) rfl rfl (rmOk (by omega) rfl) ⟨by first | exact Nat.le_refl _ | exact Nat.zero_le _ | decide | (dsimp only [rm]; omega), by first | exact Nat.le_refl _ | exact Nat.zero_le _ | decide | (dsimp only [rm]; omega)⟩ (rt1 ?_)
      generalize rdR y k s = rr
      refine gl_bipush (v := (-9)) dX1_library_29 (by decide) ?_
      refine gl_icmp_eq (tgt := 37) dX1_library_31 (by decide) (fun h31 => ?_) (fun h31 => ?_)
      · rw [if_pos h31]
        refine gl_aload_n dX1_library_37 rfl ?_
        refine gl_get (k := 12) dX1_library_38 rfl (rfl : vwCl[1]? = some (RX1, TX1, 21)) in_X1 (by decide) q1032 rfl ?_
        refine gl_iconst (v := nI 0) dX1_library_41 (by decide) ?_
        refine gl_aload_n dX1_library_42 rfl ?_
        refine gl_get (k := 4) dX1_library_43 rfl (rfl : vwCl[1]? = some (RX1, TX1, 21)) in_X1 (by decide) q1024 rfl ?_
        refine gl_iconst (v := nI 0) dX1_library_46 (by decide) ?_
        refine gl_callS (m_copies L (mM o (rdS y rr.2)) 27 23 0 0 393 393 rr.2.2 (y.2.2 23) rfl rfl (by omega) (by omega) (by omega) (by omega) (by omega)) dX1_library_47 q1169 q1170 q75 q1171 rfl hX1_copies rfl rfl (rmOk (by omega) rfl) ⟨by first | exact Nat.le_refl _ | exact Nat.zero_le _ | decide | (dsimp only [rm]; omega), by first | exact Nat.le_refl _ | exact Nat.zero_le _ | decide | (dsimp only [rm]; omega)⟩ (rt1 ?_)
        refine gl_iconst (v := nI 0) dX1_library_50 (by decide) ?_
        refine gl_istore_n dX1_library_51 rfl rfl ?_
        refine gl_mem (μ1 := mM o (sA (sA (rdS y rr.2) 23 (va_cpy rr.2.2 (y.2.2 23) 0 0 393)) 25 (fillI (y.2.2 25) 0 0 0))) (by rw [fill_0]; rfl) ?_
        refine gl_loop (fun i => [some (.ref 18), some (.int (nI k)), some (.int (nI i))]) (fun i => mM o (sA (sA (rdS y rr.2) 23 (va_cpy rr.2.2 (y.2.2 23) 0 0 393)) 25 (fillI (y.2.2 25) 0 0 i))) 3 ?_ ?_
        · intro i hi ih
          refine gl_iload_n dX1_library_52 rfl ?_
          refine gl_iconst (v := nI 3) dX1_library_53 (by decide) ?_
          refine gl_icmp_ge (tgt := 70) dX1_library_54 (by decide) (fun h => absurd h (nI_ge hi (by omega))) (fun _ => ?_)
          refine gl_aload_n dX1_library_57 rfl ?_
          refine gl_get (k := 6) dX1_library_58 rfl (rfl : vwCl[1]? = some (RX1, TX1, 21)) in_X1 (by decide) q1026 rfl ?_
          refine gl_iload_n dX1_library_61 rfl ?_
          refine gl_iconst (v := nI 0) dX1_library_62 (by decide) ?_
          refine gl_zast (j := i) dX1_library_63 rfl rfl (by omega) ?_
          refine gl_mem (μ1 := mM o (sA (sA (rdS y rr.2) 23 (va_cpy rr.2.2 (y.2.2 23) 0 0 393)) 25 (fillI (y.2.2 25) 0 0 (i + 1)))) (by rw [← fill_s, Nat.zero_add]; rfl) ?_
          refine gl_iinc (v := (nI (i + 1))) dX1_library_64 rfl (nI_1 _) rfl rfl ?_
          refine gl_goto (tgt := 52) dX1_library_67 (by decide) ?_
          exact ih
        · refine gl_iload_n dX1_library_52 rfl ?_
          refine gl_iconst (v := nI 3) dX1_library_53 (by decide) ?_
          refine gl_icmp_ge (tgt := 70) dX1_library_54 (by decide) (fun _ => ?_) (fun h => absurd (nI_le (Nat.le_refl _) (by omega)) h)
          refine gl_aload_n dX1_library_70 rfl ?_
          refine gl_get (k := 4) dX1_library_71 rfl (rfl : vwCl[1]? = some (RX1, TX1, 21)) in_X1 (by decide) q1024 rfl ?_
          refine gl_iconst (v := nI 0) dX1_library_74 (by decide) ?_
          refine gl_iald (j := 0) dX1_library_75 rfl rfl (by omega) ?_
          exact gl_iret dX1_library_76 rfl ⟨rfl, rfl⟩
      · rw [if_neg h31]
        refine gl_bipush (v := (-4)) dX1_library_34 (by decide) ?_
        exact gl_iret dX1_library_36 rfl ⟨rfl, rfl⟩
    · rw [if_pos (k2_lt h15)]
      refine gl_aload_n dX1_library_18 rfl ?_
      refine gl_iconst (v := nI 1) dX1_library_19 (by decide) ?_
      refine gl_callV (m_found L o y (1) (by omega)) dX1_library_20 q1096 q1098 qs44 q75 q1099 rfl hX1_found rfl (rfl : vwCl[1]? = some (RX1, TX1, 21)) rfl rfl (rmOk (by omega) rfl) ⟨by first | exact Nat.le_refl _ | exact Nat.zero_le _ | decide | (dsimp only [rm]; omega), by first | exact Nat.le_refl _ | exact Nat.zero_le _ | decide | (dsimp only [rm]; omega)⟩ (rt1 ?_)
      exact gl_iret dX1_library_23 rfl ⟨rfl, rfl⟩
  · unfold sp_library
    rw [if_neg (by simp [bI_fa h4])]
    refine gl_iconst (v := (-1)) dX1_library_7 (by decide) ?_
    exact gl_iret dX1_library_8 rfl ⟨rfl, rfl⟩
def sp_keep (y : MY) (k : Int32) : Int32 × MY := if inR k 0 2 then (if y.2.2 23 0 = 0 then (-4, y) else (y.2.2 23 2, sA (sA y 24 (va_cpy (y.2.2 23) (y.2.2 24) 0 (393 * ix k) 393)) 25 (upd (y.2.2 25) (ix k) (nI 1)))) else (-1, y)
theorem m_keep (k : Int32) : Ct yX1_keep gX1_keep (L + 12) 0 0 [.ref 18, .int k] (mM o y) (RtP o (sp_keep y k)) := by
  refine Ct.of rfl rfl rfl rfl rfl ?_
  refine gl_iload_n dX1_keep_0 rfl ?_
  refine gl_i2l dX1_keep_1 ?_
  refine gl_lconst (v := 0) dX1_keep_2 (by decide) ?_
  refine gl_ldc2 (v := 2) q1276 dX1_keep_3 ?_
  refine gl_callS (m_in_i L (mM o y) k 0 2 rfl rfl) dX1_keep_6 q1093 q1094 q75 q1095 rfl hX1_in rfl rfl (rmOk (by omega) rfl) ⟨by first | exact Nat.le_refl _ | exact Nat.zero_le _ | decide | (dsimp only [rm]; omega), by first | exact Nat.le_refl _ | exact Nat.zero_le _ | decide | (dsimp only [rm]; omega)⟩ (rt1 ?_)
  refine gl_if_ne (tgt := 14) dX1_keep_9 (by decide) (fun h9 => ?_) (fun h9 => ?_)
  · have hr := bI_tr h9
    obtain ⟨k, -, hk, rfl⟩ := inR_nat (a := 0) (b := 2) (by omega) (by omega) hr
    unfold sp_keep
    rw [if_pos hr, ix_nI (show k < 100 by omega)]
    refine gl_aload_n dX1_keep_14 rfl ?_
    refine gl_get (k := 4) dX1_keep_15 rfl (rfl : vwCl[1]? = some (RX1, TX1, 21)) in_X1 (by decide) q1024 rfl ?_
    refine gl_iconst (v := nI 0) dX1_keep_18 (by decide) ?_
    refine gl_iald (j := 0) dX1_keep_19 rfl rfl (by omega) ?_
    refine gl_if_ne (tgt := 26) dX1_keep_20 (by decide) (fun h20 => ?_) (fun h20 => ?_)
    · rw [if_neg h20]
      refine gl_aload_n dX1_keep_26 rfl ?_
      refine gl_get (k := 4) dX1_keep_27 rfl (rfl : vwCl[1]? = some (RX1, TX1, 21)) in_X1 (by decide) q1024 rfl ?_
      refine gl_iconst (v := nI 0) dX1_keep_30 (by decide) ?_
      refine gl_aload_n dX1_keep_31 rfl ?_
      refine gl_get (k := 5) dX1_keep_32 rfl (rfl : vwCl[1]? = some (RX1, TX1, 21)) in_X1 (by decide) q1025 rfl ?_
      refine gl_sipush (v := nI 393) dX1_keep_35 (by decide) ?_
      refine gl_iload_n dX1_keep_38 rfl ?_
      refine gl_imul dX1_keep_39 ?_
      rw [nI_mul]
      refine gl_callS (m_copies L (mM o y) 23 24 0 (393*k) 393 1179 (y.2.2 23) (y.2.2 24) rfl rfl (by omega) (by omega) (by omega) (by omega) (by omega)) dX1_keep_40 q1169 q1170 q75 q1171 rfl hX1_copies rfl rfl (rmOk (by omega) rfl) ⟨by first | exact Nat.le_refl _ | exact Nat.zero_le _ | decide | (dsimp only [rm]; omega), by first | exact Nat.le_refl _ | exact Nat.zero_le _ | decide | (dsimp only [rm]; omega)⟩ (rt1 ?_)
      refine gl_aload_n dX1_keep_43 rfl ?_
      refine gl_get (k := 6) dX1_keep_44 rfl (rfl : vwCl[1]? = some (RX1, TX1, 21)) in_X1 (by decide) q1026 rfl ?_
      refine gl_iload_n dX1_keep_47 rfl ?_
      refine gl_iconst (v := nI 1) dX1_keep_48 (by decide) ?_
      refine gl_zast (j := k) dX1_keep_49 rfl rfl (by omega) ?_
      refine gl_aload_n dX1_keep_50 rfl ?_
      refine gl_get (k := 4) dX1_keep_51 rfl (rfl : vwCl[1]? = some (RX1, TX1, 21)) in_X1 (by decide) q1024 rfl ?_
      refine gl_iconst (v := nI 2) dX1_keep_54 (by decide) ?_
      refine gl_iald (j := 2) dX1_keep_55 rfl rfl (by omega) ?_
      exact gl_iret dX1_keep_56 rfl ⟨rfl, rfl⟩
    · rw [if_pos h20]
      refine gl_bipush (v := (-4)) dX1_keep_23 (by decide) ?_
      exact gl_iret dX1_keep_25 rfl ⟨rfl, rfl⟩
  · unfold sp_keep
    rw [if_neg (by simp [bI_fa h9])]
    refine gl_iconst (v := (-1)) dX1_keep_12 (by decide) ?_
    exact gl_iret dX1_keep_13 rfl ⟨rfl, rfl⟩
def sp_on (y : MY) (k : Int32) : Int32 × MY := if inR k 0 2 then (if y.2.2 25 (ix k) = 0 then sfnd y 1 else (y.2.2 24 (393 * ix k + 2), sA y 23 (va_cpy (y.2.2 24) (y.2.2 23) (393 * ix k) 0 393))) else (-1, y)
theorem m_on (k : Int32) : Ct yX1_on gX1_on (L + 12) 0 0 [.ref 18, .int k] (mM o y) (RtP o (sp_on y k)) := by
  refine Ct.of rfl rfl rfl rfl rfl ?_
  refine gl_iload_n dX1_on_0 rfl ?_
  refine gl_i2l dX1_on_1 ?_
  refine gl_lconst (v := 0) dX1_on_2 (by decide) ?_
  refine gl_ldc2 (v := 2) q1276 dX1_on_3 ?_
  refine gl_callS (m_in_i L (mM o y) k 0 2 rfl rfl) dX1_on_6 q1093 q1094 q75 q1095 rfl hX1_in rfl rfl (rmOk (by omega) rfl) ⟨by first | exact Nat.le_refl _ | exact Nat.zero_le _ | decide | (dsimp only [rm]; omega), by first | exact Nat.le_refl _ | exact Nat.zero_le _ | decide | (dsimp only [rm]; omega)⟩ (rt1 ?_)
  refine gl_if_ne (tgt := 14) dX1_on_9 (by decide) (fun h9 => ?_) (fun h9 => ?_)
  · have hr := bI_tr h9
    obtain ⟨k, -, hk, rfl⟩ := inR_nat (a := 0) (b := 2) (by omega) (by omega) hr
    unfold sp_on
    rw [if_pos hr, ix_nI (show k < 100 by omega)]
    refine gl_aload_n dX1_on_14 rfl ?_
    refine gl_get (k := 6) dX1_on_15 rfl (rfl : vwCl[1]? = some (RX1, TX1, 21)) in_X1 (by decide) q1026 rfl ?_
    refine gl_iload_n dX1_on_18 rfl ?_
    refine gl_zald (j := k) dX1_on_19 rfl rfl (by omega) ?_
    refine gl_if_ne (tgt := 29) dX1_on_20 (by decide) (fun h20 => ?_) (fun h20 => ?_)
    · rw [if_neg h20]
      refine gl_aload_n dX1_on_29 rfl ?_
      refine gl_get (k := 5) dX1_on_30 rfl (rfl : vwCl[1]? = some (RX1, TX1, 21)) in_X1 (by decide) q1025 rfl ?_
      refine gl_sipush (v := nI 393) dX1_on_33 (by decide) ?_
      refine gl_iload_n dX1_on_36 rfl ?_
      refine gl_imul dX1_on_37 ?_
      refine gl_aload_n dX1_on_38 rfl ?_
      refine gl_get (k := 4) dX1_on_39 rfl (rfl : vwCl[1]? = some (RX1, TX1, 21)) in_X1 (by decide) q1024 rfl ?_
      refine gl_iconst (v := nI 0) dX1_on_42 (by decide) ?_
      rw [nI_mul]
      refine gl_callS (m_copies L (mM o y) 24 23 (393*k) 0 1179 393 (y.2.2 24) (y.2.2 23) rfl rfl (by omega) (by omega) (by omega) (by omega) (by omega)) dX1_on_43 q1169 q1170 q75 q1171 rfl hX1_copies rfl rfl (rmOk (by omega) rfl) ⟨by first | exact Nat.le_refl _ | exact Nat.zero_le _ | decide | (dsimp only [rm]; omega), by first | exact Nat.le_refl _ | exact Nat.zero_le _ | decide | (dsimp only [rm]; omega)⟩ (rt1 ?_)
      refine gl_aload_n dX1_on_46 rfl ?_
      refine gl_get (k := 4) dX1_on_47 rfl (rfl : vwCl[1]? = some (RX1, TX1, 21)) in_X1 (by decide) q1024 rfl ?_
      refine gl_iconst (v := nI 2) dX1_on_50 (by decide) ?_
      refine gl_iald (j := 2) dX1_on_51 rfl rfl (by omega) ?_
      exact gl_iret dX1_on_52 rfl ⟨rfl, rfl⟩
    · rw [if_pos h20]
      refine gl_aload_n dX1_on_23 rfl ?_
      refine gl_iconst (v := nI 1) dX1_on_24 (by decide) ?_
      refine gl_callV (m_found L o y (1) (by omega)) dX1_on_25 q1096 q1098 qs44 q75 q1099 rfl hX1_found rfl (rfl : vwCl[1]? = some (RX1, TX1, 21)) rfl rfl (rmOk (by omega) rfl) ⟨by first | exact Nat.le_refl _ | exact Nat.zero_le _ | decide | (dsimp only [rm]; omega), by first | exact Nat.le_refl _ | exact Nat.zero_le _ | decide | (dsimp only [rm]; omega)⟩ (rt1 ?_)
      exact gl_iret dX1_on_28 rfl ⟨rfl, rfl⟩
  · unfold sp_on
    rw [if_neg (by simp [bI_fa h9])]
    refine gl_iconst (v := (-1)) dX1_on_12 (by decide) ?_
    exact gl_iret dX1_on_13 rfl ⟨rfl, rfl⟩
end MV

