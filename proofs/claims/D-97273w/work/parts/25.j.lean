/-! the model: fits, takings, marks, counts over cards and questions -/
set_option maxRecDepth 100000
section MJ
variable (L : Nat) (o : OY) (y : MY) {n m t : Nat}
def sp_fits (y : MY) (n : Nat) (q : Int32) : Int32 × MY := (if inR q 0 (y.2.2 23 1 - 1) then orI (fun c => fitB (y.2.2 23) (ix q) c) n else -1, y)
theorem m_fits (hL : Lb (y.2.2 23) n m t) (q : Int32) : Ct yX1_fits gX1_fits (L + 13) 0 0 [.ref 18, .int q] (mM o y) (RtP o (sp_fits y n q)) := by
  refine Ct.of rfl rfl rfl rfl rfl ?_
  have h7 := hL.c7
  have h7q := hL.q7
  refine gl_aload_n dX1_fits_0 rfl ?_
  refine gl_iload_n dX1_fits_1 rfl ?_
  refine gl_callV (m_isQuestion L o y _) dX1_fits_2 q1196 q1198 qs55 q75 q1199 rfl hX1_isQuestion rfl (rfl : vwCl[1]? = some (RX1, TX1, 21)) rfl rfl (rmOk (by omega) rfl) ⟨by first | exact Nat.le_refl _ | exact Nat.zero_le _ | decide | (dsimp only [rm]; omega), by first | exact Nat.le_refl _ | exact Nat.zero_le _ | decide | (dsimp only [rm]; omega)⟩ (rt1 ?_)
  refine gl_if_ne (tgt := 10) dX1_fits_5 (by decide) (fun h5 => ?_) (fun h5 => ?_)
  · have hr := bI_tr h5
    unfold sp_fits
    rw [if_pos hr]
    rw [hL.q] at hr
    obtain ⟨q, hq, rfl⟩ := inR_n (by omega) hr
    rw [ix_nI (show q < 100 by omega)]
    refine gl_iconst (v := nI 0) dX1_fits_10 (by decide) ?_
    refine gl_istore_n dX1_fits_11 rfl rfl ?_
    refine gl_iconst (v := nI 0) dX1_fits_12 (by decide) ?_
    refine gl_istore_n dX1_fits_13 rfl rfl ?_
    refine gl_loop (fun k => [some (.ref 18), some (.int (nI q)), some (.int (orI (fun c => fitB (y.2.2 23) q c) k)), some (.int (nI k))]) (fun _ => mM o y) n ?_ ?_
    · intro k hk ih
      refine gl_iload_n dX1_fits_14 rfl ?_
      refine gl_aload_n dX1_fits_15 rfl ?_
      refine gl_get (k := 4) dX1_fits_16 rfl (rfl : vwCl[1]? = some (RX1, TX1, 21)) in_X1 (by decide) q1024 rfl ?_
      refine gl_iconst (v := nI 0) dX1_fits_19 (by decide) ?_
      refine gl_iald (j := 0) dX1_fits_20 rfl rfl (by omega) ?_
      refine gl_icmp_ge (tgt := 49) dX1_fits_21 (by decide) (fun h => absurd h ((by rw [hL.c]; exact nI_ge hk (by omega)))) (fun _ => ?_)
      refine gl_iload_n dX1_fits_24 rfl ?_
      refine gl_aload_n dX1_fits_25 rfl ?_
      refine gl_iload_n dX1_fits_26 rfl ?_
      refine gl_iload_n dX1_fits_27 rfl ?_
      refine gl_callV (m_isFit L o y hL (q) (k) (by omega) (by omega)) dX1_fits_28 q1207 q1209 qs56 q75 q1210 rfl hX1_isFit rfl (rfl : vwCl[1]? = some (RX1, TX1, 21)) rfl rfl (rmOk (by omega) rfl) ⟨by first | exact Nat.le_refl _ | exact Nat.zero_le _ | decide | (dsimp only [rm]; omega), by first | exact Nat.le_refl _ | exact Nat.zero_le _ | decide | (dsimp only [rm]; omega)⟩ (rt1 ?_)
      refine gl_if_eq (tgt := 40) dX1_fits_31 (by decide) (fun h31 => ?_) (fun h31 => ?_)
      · refine gl_iconst (v := nI 0) dX1_fits_40 (by decide) ?_
        refine gl_ior dX1_fits_41 ?_
        refine gl_istore_n dX1_fits_42 rfl rfl ?_
        refine gl_iinc (v := (nI (k + 1))) dX1_fits_43 rfl (nI_1 _) rfl rfl ?_
        refine gl_goto (tgt := 14) dX1_fits_46 (by decide) ?_
        exact cast (by simp_all [orI, bI_ne]) ih
      · refine gl_iconst (v := nI 1) dX1_fits_34 (by decide) ?_
        refine gl_iload_n dX1_fits_35 rfl ?_
        refine gl_ishl dX1_fits_36 ?_
        refine gl_goto (tgt := 41) dX1_fits_37 (by decide) ?_
        refine gl_ior dX1_fits_41 ?_
        refine gl_istore_n dX1_fits_42 rfl rfl ?_
        refine gl_iinc (v := (nI (k + 1))) dX1_fits_43 rfl (nI_1 _) rfl rfl ?_
        refine gl_goto (tgt := 14) dX1_fits_46 (by decide) ?_
        exact cast (by simp_all [orI, bI_ne]) ih
    · refine gl_iload_n dX1_fits_14 rfl ?_
      refine gl_aload_n dX1_fits_15 rfl ?_
      refine gl_get (k := 4) dX1_fits_16 rfl (rfl : vwCl[1]? = some (RX1, TX1, 21)) in_X1 (by decide) q1024 rfl ?_
      refine gl_iconst (v := nI 0) dX1_fits_19 (by decide) ?_
      refine gl_iald (j := 0) dX1_fits_20 rfl rfl (by omega) ?_
      refine gl_icmp_ge (tgt := 49) dX1_fits_21 (by decide) (fun _ => ?_) (fun h => absurd ((by rw [hL.c]; exact nI_le (Nat.le_refl _) (by omega))) h)
      refine gl_iload_n dX1_fits_49 rfl ?_
      exact gl_iret dX1_fits_50 rfl ⟨rfl, rfl⟩
  · unfold sp_fits
    rw [if_neg (by simp [bI_fa h5])]
    refine gl_iconst (v := (-1)) dX1_fits_8 (by decide) ?_
    exact gl_iret dX1_fits_9 rfl ⟨rfl, rfl⟩
theorem Lb.card (hL : Lb (y.2.2 23) n m t) {q : Nat} (hq : q < m) (h : frQ (y.2.2 23) q = false) : ∃ c, c < n ∧ y.2.2 23 (66 + q) = nI c := by
  rcases hL.by_.1 q hq with e | e
  · simp [frQ, e] at h
  · exact e
def stN (w : Nat → Int32) (how : Int32) (m : Nat) : Int32 := cntI (fun q => !frQ w q && stB w q == how) m
theorem m_standing (hL : Lb (y.2.2 23) n m t) (how : Int32) : Ct yX1_standing gX1_standing (L + 13) 0 0 [.ref 18, .int how] (mM o y) (Rt (some (.int (stN (y.2.2 23) how m))) (mM o y)) := by
  refine Ct.of rfl rfl rfl rfl rfl ?_
  have h7 := hL.c7
  have h7q := hL.q7
  refine gl_iconst (v := nI 0) dX1_standing_0 (by decide) ?_
  refine gl_istore_n dX1_standing_1 rfl rfl ?_
  refine gl_iconst (v := nI 0) dX1_standing_2 (by decide) ?_
  refine gl_istore_n dX1_standing_3 rfl rfl ?_
  refine gl_loop (fun k => [some (.ref 18), some (.int how), some (.int (stN (y.2.2 23) how k)), some (.int (nI k))]) (fun _ => mM o y) m ?_ ?_
  · intro k hk ih
    refine gl_iload_n dX1_standing_4 rfl ?_
    refine gl_aload_n dX1_standing_5 rfl ?_
    refine gl_get (k := 4) dX1_standing_6 rfl (rfl : vwCl[1]? = some (RX1, TX1, 21)) in_X1 (by decide) q1024 rfl ?_
    refine gl_iconst (v := nI 1) dX1_standing_9 (by decide) ?_
    refine gl_iald (j := 1) dX1_standing_10 rfl rfl (by omega) ?_
    refine gl_icmp_ge (tgt := 45) dX1_standing_11 (by decide) (fun h => absurd h ((by rw [hL.q]; exact nI_ge hk (by omega)))) (fun _ => ?_)
    refine gl_iload_n dX1_standing_14 rfl ?_
    refine gl_aload_n dX1_standing_15 rfl ?_
    refine gl_iload_n dX1_standing_16 rfl ?_
    refine gl_callV (m_isFree L o y (k) (by omega)) dX1_standing_17 q1240 q1242 qs59 q75 q1243 rfl hX1_isFree rfl (rfl : vwCl[1]? = some (RX1, TX1, 21)) rfl rfl (rmOk (by omega) rfl) ⟨by first | exact Nat.le_refl _ | exact Nat.zero_le _ | decide | (dsimp only [rm]; omega), by first | exact Nat.le_refl _ | exact Nat.zero_le _ | decide | (dsimp only [rm]; omega)⟩ (rt1 ?_)
    refine gl_if_ne (tgt := 36) dX1_standing_20 (by decide) (fun h20 => ?_) (fun h20 => ?_)
    · refine gl_iconst (v := nI 0) dX1_standing_36 (by decide) ?_
      refine gl_iadd dX1_standing_37 ?_
      refine gl_istore_n dX1_standing_38 rfl rfl ?_
      refine gl_iinc (v := (nI (k + 1))) dX1_standing_39 rfl (nI_1 _) rfl rfl ?_
      refine gl_goto (tgt := 4) dX1_standing_42 (by decide) ?_
      have := bI_tr h20
      exact cast (by simp [stN, cntI, this, bI]) ih
    · have hf := bI_fa h20
      obtain ⟨c, hc, e⟩ := Lb.card y hL hk hf
      refine gl_aload_n dX1_standing_23 rfl ?_
      refine gl_iload_n dX1_standing_24 rfl ?_
      refine gl_callV (m_stands L o y hL.kind k c (by omega) (by omega) e) dX1_standing_25 q1252 q1254 qs62 q75 q1255 rfl hX1_stands rfl (rfl : vwCl[1]? = some (RX1, TX1, 21)) rfl rfl (rmOk (by omega) rfl) ⟨by first | exact Nat.le_refl _ | exact Nat.zero_le _ | decide | (dsimp only [rm]; omega), by first | exact Nat.le_refl _ | exact Nat.zero_le _ | decide | (dsimp only [rm]; omega)⟩ (rt1 ?_)
      refine gl_iload_n dX1_standing_28 rfl ?_
      refine gl_icmp_ne (tgt := 36) dX1_standing_29 (by decide) (fun h29 => ?_) (fun h29 => ?_)
      · refine gl_iconst (v := nI 0) dX1_standing_36 (by decide) ?_
        refine gl_iadd dX1_standing_37 ?_
        refine gl_istore_n dX1_standing_38 rfl rfl ?_
        refine gl_iinc (v := (nI (k + 1))) dX1_standing_39 rfl (nI_1 _) rfl rfl ?_
        refine gl_goto (tgt := 4) dX1_standing_42 (by decide) ?_
        exact cast (by simp [stN, cntI, hf, h29, bI]) ih
      · refine gl_iconst (v := nI 1) dX1_standing_32 (by decide) ?_
        refine gl_goto (tgt := 37) dX1_standing_33 (by decide) ?_
        refine gl_iadd dX1_standing_37 ?_
        refine gl_istore_n dX1_standing_38 rfl rfl ?_
        refine gl_iinc (v := (nI (k + 1))) dX1_standing_39 rfl (nI_1 _) rfl rfl ?_
        refine gl_goto (tgt := 4) dX1_standing_42 (by decide) ?_
        exact cast (by simp [stN, cntI, hf, h29, bI]) ih
  · refine gl_iload_n dX1_standing_4 rfl ?_
    refine gl_aload_n dX1_standing_5 rfl ?_
    refine gl_get (k := 4) dX1_standing_6 rfl (rfl : vwCl[1]? = some (RX1, TX1, 21)) in_X1 (by decide) q1024 rfl ?_
    refine gl_iconst (v := nI 1) dX1_standing_9 (by decide) ?_
    refine gl_iald (j := 1) dX1_standing_10 rfl rfl (by omega) ?_
    refine gl_icmp_ge (tgt := 45) dX1_standing_11 (by decide) (fun _ => ?_) (fun h => absurd ((by rw [hL.q]; exact nI_le (Nat.le_refl _) (by omega))) h)
    refine gl_iload_n dX1_standing_45 rfl ?_
    exact gl_iret dX1_standing_46 rfl ⟨rfl, rfl⟩
def sp_right (y : MY) (m : Nat) : Int32 × MY := (stN (y.2.2 23) (nI 1) m, sI y 7 (stN (y.2.2 23) (nI 0) m))
theorem m_right (hL : Lb (y.2.2 23) n m t) : Ct yX1_right gX1_right (L + 14) 0 0 [.ref 18] (mM o y) (RtP o (sp_right y m)) := by
  refine Ct.of rfl rfl rfl rfl rfl ?_
  refine gl_aload_n dX1_right_0 rfl ?_
  refine gl_aload_n dX1_right_1 rfl ?_
  refine gl_iconst (v := nI 0) dX1_right_2 (by decide) ?_
  refine gl_callV (m_standing L o y hL _) dX1_right_3 q1268 q1270 qs63 q75 q1271 rfl hX1_standing rfl (rfl : vwCl[1]? = some (RX1, TX1, 21)) rfl rfl (rmOk (by omega) rfl) ⟨by first | exact Nat.le_refl _ | exact Nat.zero_le _ | decide | (dsimp only [rm]; omega), by first | exact Nat.le_refl _ | exact Nat.zero_le _ | decide | (dsimp only [rm]; omega)⟩ (rt1 ?_)
  refine gl_callV (m_tell L o y _) dX1_right_6 q1104 q1106 qs45 q75 q1107 rfl hX1_tell rfl (rfl : vwCl[1]? = some (RX1, TX1, 21)) rfl rfl (rmOk (by omega) rfl) ⟨by first | exact Nat.le_refl _ | exact Nat.zero_le _ | decide | (dsimp only [rm]; omega), by first | exact Nat.le_refl _ | exact Nat.zero_le _ | decide | (dsimp only [rm]; omega)⟩ (rt1 ?_)
  refine gl_istore_n dX1_right_9 rfl rfl ?_
  refine gl_aload_n dX1_right_10 rfl ?_
  refine gl_iconst (v := nI 1) dX1_right_11 (by decide) ?_
  refine gl_callV (m_standing L o (sI y 7 (stN (y.2.2 23) (nI 0) m)) hL _) dX1_right_12 q1268 q1270 qs63 q75 q1271 rfl hX1_standing rfl (rfl : vwCl[1]? = some (RX1, TX1, 21)) rfl rfl (rmOk (by omega) rfl) ⟨by first | exact Nat.le_refl _ | exact Nat.zero_le _ | decide | (dsimp only [rm]; omega), by first | exact Nat.le_refl _ | exact Nat.zero_le _ | decide | (dsimp only [rm]; omega)⟩ (rt1 ?_)
  exact gl_iret dX1_right_15 rfl ⟨rfl, rfl⟩
/-- a taking -/
def tkS (w : Nat → Int32) (t q c : Nat) : Nat → Int32 := upd (upd (upd (va_cpy w w 66 (113 + 7 * t) 7) (73 + t) (nI (10 * q + c))) (66 + q) (nI c)) 2 (w 2 + nI 1)
theorem m_takesIt (ht : y.2.2 23 2 = nI t) (ht4 : t < 40) (q c : Nat) (hq : q < 7) (hc : c < 7) : Ct yX1_takesIt gX1_takesIt (L + 10) 0 0 [.ref 18, .int (nI q), .int (nI c)] (mM o y) (Rt none (mM o (sA y 23 (tkS (y.2.2 23) t q c)))) := by
  refine Ct.of rfl rfl rfl rfl rfl ?_
  refine gl_aload_n dX1_takesIt_0 rfl ?_
  refine gl_get (k := 4) dX1_takesIt_1 rfl (rfl : vwCl[1]? = some (RX1, TX1, 21)) in_X1 (by decide) q1024 rfl ?_
  refine gl_iconst (v := nI 2) dX1_takesIt_4 (by decide) ?_
  refine gl_iald (j := 2) dX1_takesIt_5 rfl rfl (by omega) ?_
  rw [ht]
  refine gl_istore_n dX1_takesIt_6 rfl rfl ?_
  refine gl_iconst (v := nI 0) dX1_takesIt_7 (by decide) ?_
  refine gl_istore dX1_takesIt_8 rfl rfl ?_
  refine gl_mem (μ1 := mM o (sA y 23 (va_cpy (y.2.2 23) (y.2.2 23) 66 (113 + 7 * t) 0))) (by rw [cpy_0]; rfl) ?_
  refine gl_loop (fun k => [some (.ref 18), some (.int (nI q)), some (.int (nI c)), some (.int (nI t)), some (.int (nI k))]) (fun k => mM o (sA y 23 (va_cpy (y.2.2 23) (y.2.2 23) 66 (113 + 7 * t) k))) 7 ?_ ?_
  · intro k hk ih
    refine gl_iload dX1_takesIt_10 rfl ?_
    refine gl_bipush (v := nI 7) dX1_takesIt_12 (by decide) ?_
    refine gl_icmp_ge (tgt := 48) dX1_takesIt_14 (by decide) (fun h => absurd h (nI_ge hk (by omega))) (fun _ => ?_)
    refine gl_aload_n dX1_takesIt_17 rfl ?_
    refine gl_get (k := 4) dX1_takesIt_18 rfl (rfl : vwCl[1]? = some (RX1, TX1, 21)) in_X1 (by decide) q1024 rfl ?_
    refine gl_bipush (v := nI 113) dX1_takesIt_21 (by decide) ?_
    refine gl_bipush (v := nI 7) dX1_takesIt_23 (by decide) ?_
    refine gl_iload_n dX1_takesIt_25 rfl ?_
    refine gl_imul dX1_takesIt_26 ?_
    refine gl_iadd dX1_takesIt_27 ?_
    refine gl_iload dX1_takesIt_28 rfl ?_
    refine gl_iadd dX1_takesIt_30 ?_
    refine gl_aload_n dX1_takesIt_31 rfl ?_
    refine gl_get (k := 4) dX1_takesIt_32 rfl (rfl : vwCl[1]? = some (RX1, TX1, 21)) in_X1 (by decide) q1024 rfl ?_
    refine gl_bipush (v := nI 66) dX1_takesIt_35 (by decide) ?_
    refine gl_iload dX1_takesIt_37 rfl ?_
    refine gl_iadd dX1_takesIt_39 ?_
    refine gl_iald (j := (66 + k)) dX1_takesIt_40 rfl (by simp only [nI_add, nI_mul]) (by omega) ?_
    refine gl_iast (j := ((113 + (7 * t)) + k)) dX1_takesIt_41 rfl (by simp only [nI_add, nI_mul]) (by omega) ?_
    refine gl_mem (μ1 := mM o (sA y 23 (va_cpy (y.2.2 23) (y.2.2 23) 66 (113 + 7 * t) (k + 1)))) (by rw [← cpy_s]; show mM o (sA y 23 (upd _ _ (va_cpy _ _ _ _ _ _))) = _; rw [pk_cpy_out (by omega)]; rfl) ?_
    refine gl_iinc (v := (nI (k + 1))) dX1_takesIt_42 rfl (nI_1 _) rfl rfl ?_
    refine gl_goto (tgt := 10) dX1_takesIt_45 (by decide) ?_
    exact ih
  · refine gl_iload dX1_takesIt_10 rfl ?_
    refine gl_bipush (v := nI 7) dX1_takesIt_12 (by decide) ?_
    refine gl_icmp_ge (tgt := 48) dX1_takesIt_14 (by decide) (fun _ => ?_) (fun h => absurd (nI_le (Nat.le_refl _) (by omega)) h)
    refine gl_aload_n dX1_takesIt_48 rfl ?_
    refine gl_get (k := 4) dX1_takesIt_49 rfl (rfl : vwCl[1]? = some (RX1, TX1, 21)) in_X1 (by decide) q1024 rfl ?_
    refine gl_bipush (v := nI 73) dX1_takesIt_52 (by decide) ?_
    refine gl_iload_n dX1_takesIt_54 rfl ?_
    refine gl_iadd dX1_takesIt_55 ?_
    refine gl_bipush (v := nI 10) dX1_takesIt_56 (by decide) ?_
    refine gl_iload_n dX1_takesIt_58 rfl ?_
    refine gl_imul dX1_takesIt_59 ?_
    refine gl_iload_n dX1_takesIt_60 rfl ?_
    refine gl_iadd dX1_takesIt_61 ?_
    refine gl_iast (j := (73 + t)) dX1_takesIt_62 rfl (by simp only [nI_add, nI_mul]) (by omega) ?_
    rw [nI_mul, nI_add]
    refine gl_mem (μ1 := mM o (sA y 23 (upd (va_cpy (y.2.2 23) (y.2.2 23) 66 (113 + 7 * t) 7) (73 + t) (nI (10 * q + c))))) rfl ?_
    have z : upd (upd (va_cpy (y.2.2 23) (y.2.2 23) 66 (113 + 7 * t) 7) (73 + t) (nI (10 * q + c))) (66 + q) (nI c) 2 = y.2.2 23 2 := by rw [pk_un (by omega), pk_un (by omega), pk_cpy_out (by omega)]
    refine gl_aload_n dX1_takesIt_63 rfl ?_
    refine gl_get (k := 4) dX1_takesIt_64 rfl (rfl : vwCl[1]? = some (RX1, TX1, 21)) in_X1 (by decide) q1024 rfl ?_
    refine gl_bipush (v := nI 66) dX1_takesIt_67 (by decide) ?_
    refine gl_iload_n dX1_takesIt_69 rfl ?_
    refine gl_iadd dX1_takesIt_70 ?_
    refine gl_iload_n dX1_takesIt_71 rfl ?_
    refine gl_iast (j := (66 + q)) dX1_takesIt_72 rfl (by simp only [nI_add, nI_mul]) (by omega) ?_
    refine gl_aload_n dX1_takesIt_73 rfl ?_
    refine gl_get (k := 4) dX1_takesIt_74 rfl (rfl : vwCl[1]? = some (RX1, TX1, 21)) in_X1 (by decide) q1024 rfl ?_
    refine gl_iconst (v := nI 2) dX1_takesIt_77 (by decide) ?_
    refine gl_dup2 dX1_takesIt_78 rfl rfl ?_
    refine gl_iald (j := 2) dX1_takesIt_79 rfl rfl (by omega) ?_
    refine gl_iconst (v := nI 1) dX1_takesIt_80 (by decide) ?_
    refine gl_iadd dX1_takesIt_81 ?_
    refine gl_iast (j := 2) dX1_takesIt_82 rfl rfl (by omega) ?_
    exact gl_vret dX1_takesIt_83 rfl ⟨rfl, by unfold tkS; rw [← z]; rfl⟩
theorem tkS_kind {w : Nat → Int32} {t q c : Nat} {a : Nat} (ha : a < 66) (h2 : a ≠ 2) : tkS w t q c a = w a := by
  unfold tkS
  rw [pk_un h2, pk_un (by omega), pk_un (by omega), pk_cpy_out (by omega)]
theorem tkS_by {w : Nat → Int32} {t q c : Nat} : tkS w t q c (66 + q) = nI c := by
  unfold tkS
  rw [pk_un (by omega), pk_us]
def sp_take (y : MY) (m t : Nat) (q c : Int32) : Int32 × MY := if inR q 0 (y.2.2 23 1 - 1) && inR c 0 (y.2.2 23 0 - 1) then (if fitB (y.2.2 23) (ix q) (ix c) && frQ (y.2.2 23) (ix q) && frC (y.2.2 23) m (ix c) then (if t = 40 then (-2, y) else (stB (tkS (y.2.2 23) t (ix q) (ix c)) (ix q), sA y 23 (tkS (y.2.2 23) t (ix q) (ix c)))) else (-4, y)) else (-1, y)
theorem m_take (hL : Lb (y.2.2 23) n m t) (q c : Int32) : Ct yX1_take gX1_take (L + 13) 0 0 [.ref 18, .int q, .int c] (mM o y) (RtP o (sp_take y m t q c)) := by
  refine Ct.of rfl rfl rfl rfl rfl ?_
  have h7 := hL.c7
  have h7q := hL.q7
  refine gl_aload_n dX1_take_0 rfl ?_
  refine gl_iload_n dX1_take_1 rfl ?_
  refine gl_callV (m_isQuestion L o y _) dX1_take_2 q1196 q1198 qs55 q75 q1199 rfl hX1_isQuestion rfl (rfl : vwCl[1]? = some (RX1, TX1, 21)) rfl rfl (rmOk (by omega) rfl) ⟨by first | exact Nat.le_refl _ | exact Nat.zero_le _ | decide | (dsimp only [rm]; omega), by first | exact Nat.le_refl _ | exact Nat.zero_le _ | decide | (dsimp only [rm]; omega)⟩ (rt1 ?_)
  refine gl_if_eq (tgt := 16) dX1_take_5 (by decide) (fun h5 => ?_) (fun h5 => ?_)
  · unfold sp_take
    rw [if_neg (by simp [bI_fa h5])]
    refine gl_iconst (v := (-1)) dX1_take_16 (by decide) ?_
    exact gl_iret dX1_take_17 rfl ⟨rfl, rfl⟩
  · have hq := bI_tr h5
    refine gl_aload_n dX1_take_8 rfl ?_
    refine gl_iload_n dX1_take_9 rfl ?_
    refine gl_callV (m_isCard L o y _) dX1_take_10 q1176 q1178 qs51 q75 q1179 rfl hX1_isCard rfl (rfl : vwCl[1]? = some (RX1, TX1, 21)) rfl rfl (rmOk (by omega) rfl) ⟨by first | exact Nat.le_refl _ | exact Nat.zero_le _ | decide | (dsimp only [rm]; omega), by first | exact Nat.le_refl _ | exact Nat.zero_le _ | decide | (dsimp only [rm]; omega)⟩ (rt1 ?_)
    refine gl_if_ne (tgt := 18) dX1_take_13 (by decide) (fun h13 => ?_) (fun h13 => ?_)
    · have hc := bI_tr h13
      unfold sp_take
      rw [if_pos (by rw [hq, hc]; rfl)]
      rw [hL.q] at hq
      rw [hL.c] at hc
      obtain ⟨q, hq, rfl⟩ := inR_n (by omega) hq
      obtain ⟨c, hc, rfl⟩ := inR_n (by omega) hc
      rw [ix_nI (show q < 100 by omega), ix_nI (show c < 100 by omega)]
      refine gl_aload_n dX1_take_18 rfl ?_
      refine gl_iload_n dX1_take_19 rfl ?_
      refine gl_iload_n dX1_take_20 rfl ?_
      refine gl_callV (m_isFit L o y hL (q) (c) (by omega) (by omega)) dX1_take_21 q1207 q1209 qs56 q75 q1210 rfl hX1_isFit rfl (rfl : vwCl[1]? = some (RX1, TX1, 21)) rfl rfl (rmOk (by omega) rfl) ⟨by first | exact Nat.le_refl _ | exact Nat.zero_le _ | decide | (dsimp only [rm]; omega), by first | exact Nat.le_refl _ | exact Nat.zero_le _ | decide | (dsimp only [rm]; omega)⟩ (rt1 ?_)
      refine gl_if_eq (tgt := 43) dX1_take_24 (by decide) (fun h24 => ?_) (fun h24 => ?_)
      · rw [if_neg (by simp [bI_fa h24])]
        refine gl_bipush (v := (-4)) dX1_take_43 (by decide) ?_
        exact gl_iret dX1_take_45 rfl ⟨rfl, rfl⟩
      · refine gl_aload_n dX1_take_27 rfl ?_
        refine gl_iload_n dX1_take_28 rfl ?_
        refine gl_callV (m_isFree L o y (q) (by omega)) dX1_take_29 q1240 q1242 qs59 q75 q1243 rfl hX1_isFree rfl (rfl : vwCl[1]? = some (RX1, TX1, 21)) rfl rfl (rmOk (by omega) rfl) ⟨by first | exact Nat.le_refl _ | exact Nat.zero_le _ | decide | (dsimp only [rm]; omega), by first | exact Nat.le_refl _ | exact Nat.zero_le _ | decide | (dsimp only [rm]; omega)⟩ (rt1 ?_)
        refine gl_if_eq (tgt := 43) dX1_take_32 (by decide) (fun h32 => ?_) (fun h32 => ?_)
        · rw [if_neg (by simp [bI_fa h32])]
          refine gl_bipush (v := (-4)) dX1_take_43 (by decide) ?_
          exact gl_iret dX1_take_45 rfl ⟨rfl, rfl⟩
        · refine gl_aload_n dX1_take_35 rfl ?_
          refine gl_iload_n dX1_take_36 rfl ?_
          refine gl_callV (m_isFreeCard L o y hL (c)) dX1_take_37 q1244 q1246 qs60 q75 q1247 rfl hX1_isFreeCard rfl (rfl : vwCl[1]? = some (RX1, TX1, 21)) rfl rfl (rmOk (by omega) rfl) ⟨by first | exact Nat.le_refl _ | exact Nat.zero_le _ | decide | (dsimp only [rm]; omega), by first | exact Nat.le_refl _ | exact Nat.zero_le _ | decide | (dsimp only [rm]; omega)⟩ (rt1 ?_)
          refine gl_if_ne (tgt := 46) dX1_take_40 (by decide) (fun h40 => ?_) (fun h40 => ?_)
          · rw [if_pos (by rw [bI_tr h24, bI_tr h32, bI_tr h40]; rfl)]
            have ht := hL.tk
            have h40t := hL.t40
            refine gl_aload_n dX1_take_46 rfl ?_
            refine gl_get (k := 4) dX1_take_47 rfl (rfl : vwCl[1]? = some (RX1, TX1, 21)) in_X1 (by decide) q1024 rfl ?_
            refine gl_iconst (v := nI 2) dX1_take_50 (by decide) ?_
            refine gl_iald (j := 2) dX1_take_51 rfl rfl (by omega) ?_
            refine gl_bipush (v := nI 40) dX1_take_52 (by decide) ?_
            refine gl_icmp_ne (tgt := 60) dX1_take_54 (by decide) (fun h54 => ?_) (fun h54 => ?_)
            · have e : ¬ t = 40 := fun z => h54 (by rw [ht, z])
              rw [if_neg e]
              refine gl_aload_n dX1_take_60 rfl ?_
              refine gl_iload_n dX1_take_61 rfl ?_
              refine gl_iload_n dX1_take_62 rfl ?_
              refine gl_callV (m_takesIt L o y ht (by omega) q c (by omega) (by omega)) dX1_take_63 q1248 q1250 qs61 q75 q1251 rfl hX1_takesIt rfl (rfl : vwCl[1]? = some (RX1, TX1, 21)) rfl rfl (rmOk (by omega) rfl) ⟨by first | exact Nat.le_refl _ | exact Nat.zero_le _ | decide | (dsimp only [rm]; omega), by first | exact Nat.le_refl _ | exact Nat.zero_le _ | decide | (dsimp only [rm]; omega)⟩ (rt1 ?_)
              refine gl_aload_n dX1_take_66 rfl ?_
              refine gl_iload_n dX1_take_67 rfl ?_
              refine gl_callV (m_stands L o (sA y 23 (tkS (y.2.2 23) t q c)) (fun a ha => by obtain ⟨k, hk, e⟩ := hL.kind a ha; exact ⟨k, hk, (tkS_kind (by omega) (by omega)).trans e⟩) q c (by omega) (by omega) tkS_by) dX1_take_68 q1252 q1254 qs62 q75 q1255 rfl hX1_stands rfl (rfl : vwCl[1]? = some (RX1, TX1, 21)) rfl rfl (rmOk (by omega) rfl) ⟨by first | exact Nat.le_refl _ | exact Nat.zero_le _ | decide | (dsimp only [rm]; omega), by first | exact Nat.le_refl _ | exact Nat.zero_le _ | decide | (dsimp only [rm]; omega)⟩ (rt1 ?_)
              exact gl_iret dX1_take_71 rfl ⟨rfl, rfl⟩
            · have e : t = 40 := (nI_eq (by omega) (by omega)).mp (by rw [← ht]; exact h54)
              rw [if_pos e]
              refine gl_bipush (v := (-2)) dX1_take_57 (by decide) ?_
              exact gl_iret dX1_take_59 rfl ⟨rfl, rfl⟩
          · rw [if_neg (by simp [bI_fa h40])]
            refine gl_bipush (v := (-4)) dX1_take_43 (by decide) ?_
            exact gl_iret dX1_take_45 rfl ⟨rfl, rfl⟩
    · unfold sp_take
      rw [if_neg (by simp [bI_fa h13])]
      refine gl_iconst (v := (-1)) dX1_take_16 (by decide) ?_
      exact gl_iret dX1_take_17 rfl ⟨rfl, rfl⟩
def sp_bring (y : MY) (q : Int32) : Int32 × MY := if inR q 0 (y.2.2 23 1 - 1) then (if frQ (y.2.2 23) (ix q) then (-4, y) else (y.2.2 23 (66 + ix q), sA y 23 (upd (y.2.2 23) (66 + ix q) (-9)))) else (-1, y)
theorem m_bring (hL : Lb (y.2.2 23) n m t) (q : Int32) : Ct yX1_bring gX1_bring (L + 13) 0 0 [.ref 18, .int q] (mM o y) (RtP o (sp_bring y q)) := by
  refine Ct.of rfl rfl rfl rfl rfl ?_
  have h7q := hL.q7
  refine gl_aload_n dX1_bring_0 rfl ?_
  refine gl_iload_n dX1_bring_1 rfl ?_
  refine gl_callV (m_isQuestion L o y _) dX1_bring_2 q1196 q1198 qs55 q75 q1199 rfl hX1_isQuestion rfl (rfl : vwCl[1]? = some (RX1, TX1, 21)) rfl rfl (rmOk (by omega) rfl) ⟨by first | exact Nat.le_refl _ | exact Nat.zero_le _ | decide | (dsimp only [rm]; omega), by first | exact Nat.le_refl _ | exact Nat.zero_le _ | decide | (dsimp only [rm]; omega)⟩ (rt1 ?_)
  refine gl_if_ne (tgt := 10) dX1_bring_5 (by decide) (fun h5 => ?_) (fun h5 => ?_)
  · have hr := bI_tr h5
    unfold sp_bring
    rw [if_pos hr]
    rw [hL.q] at hr
    obtain ⟨q, hq, rfl⟩ := inR_n (by omega) hr
    rw [ix_nI (show q < 100 by omega)]
    refine gl_aload_n dX1_bring_10 rfl ?_
    refine gl_iload_n dX1_bring_11 rfl ?_
    refine gl_callV (m_isFree L o y (q) (by omega)) dX1_bring_12 q1240 q1242 qs59 q75 q1243 rfl hX1_isFree rfl (rfl : vwCl[1]? = some (RX1, TX1, 21)) rfl rfl (rmOk (by omega) rfl) ⟨by first | exact Nat.le_refl _ | exact Nat.zero_le _ | decide | (dsimp only [rm]; omega), by first | exact Nat.le_refl _ | exact Nat.zero_le _ | decide | (dsimp only [rm]; omega)⟩ (rt1 ?_)
    refine gl_if_eq (tgt := 23) dX1_bring_15 (by decide) (fun h15 => ?_) (fun h15 => ?_)
    · rw [if_neg (by simp [bI_fa h15])]
      refine gl_aload_n dX1_bring_23 rfl ?_
      refine gl_bipush (v := nI 66) dX1_bring_24 (by decide) ?_
      refine gl_iload_n dX1_bring_26 rfl ?_
      refine gl_iadd dX1_bring_27 ?_
      refine gl_bipush (v := (-9)) dX1_bring_28 (by decide) ?_
      rw [nI_add]
      refine gl_callV (m_puts L o y (66 + q) (-9) (by omega)) dX1_bring_30 q1219 q1221 qs58 q75 q1222 rfl hX1_puts rfl (rfl : vwCl[1]? = some (RX1, TX1, 21)) rfl rfl (rmOk (by omega) rfl) ⟨by first | exact Nat.le_refl _ | exact Nat.zero_le _ | decide | (dsimp only [rm]; omega), by first | exact Nat.le_refl _ | exact Nat.zero_le _ | decide | (dsimp only [rm]; omega)⟩ (rt1 ?_)
      exact gl_iret dX1_bring_33 rfl ⟨rfl, rfl⟩
    · rw [if_pos (bI_tr h15)]
      refine gl_bipush (v := (-4)) dX1_bring_18 (by decide) ?_
      refine gl_goto (tgt := 33) dX1_bring_20 (by decide) ?_
      exact gl_iret dX1_bring_33 rfl ⟨rfl, rfl⟩
  · unfold sp_bring
    rw [if_neg (by simp [bI_fa h5])]
    refine gl_iconst (v := (-1)) dX1_bring_8 (by decide) ?_
    exact gl_iret dX1_bring_9 rfl ⟨rfl, rfl⟩
def unS (w : Nat → Int32) (k t : Nat) : Nat → Int32 := upd (if k < t then va_cpy w w (113 + 7 * k) 66 7 else w) 2 (nI k)
def sp_undo (y : MY) (t : Nat) (k : Int32) : Int32 × MY := if inR k 0 (y.2.2 23 2) then (y.2.2 23 2 - k, sA y 23 (unS (y.2.2 23) (ix k) t)) else (-1, y)
theorem m_undo (hL : Lb (y.2.2 23) n m t) (k : Int32) : Ct yX1_undo gX1_undo (L + 13) 0 0 [.ref 18, .int k] (mM o y) (RtP o (sp_undo y t k)) := by
  refine Ct.of rfl rfl rfl rfl rfl ?_
  have ht := hL.tk
  have h40t := hL.t40
  refine gl_iload_n dX1_undo_0 rfl ?_
  refine gl_i2l dX1_undo_1 ?_
  refine gl_lconst (v := 0) dX1_undo_2 (by decide) ?_
  refine gl_aload_n dX1_undo_3 rfl ?_
  refine gl_get (k := 4) dX1_undo_4 rfl (rfl : vwCl[1]? = some (RX1, TX1, 21)) in_X1 (by decide) q1024 rfl ?_
  refine gl_iconst (v := nI 2) dX1_undo_7 (by decide) ?_
  refine gl_iald (j := 2) dX1_undo_8 rfl rfl (by omega) ?_
  refine gl_i2l dX1_undo_9 ?_
  refine gl_callS (m_in_i L (mM o y) k 0 (y.2.2 23 2) rfl rfl) dX1_undo_10 q1093 q1094 q75 q1095 rfl hX1_in rfl rfl (rmOk (by omega) rfl) ⟨by first | exact Nat.le_refl _ | exact Nat.zero_le _ | decide | (dsimp only [rm]; omega), by first | exact Nat.le_refl _ | exact Nat.zero_le _ | decide | (dsimp only [rm]; omega)⟩ (rt1 ?_)
  refine gl_if_ne (tgt := 18) dX1_undo_13 (by decide) (fun h13 => ?_) (fun h13 => ?_)
  · have hr := bI_tr h13
    unfold sp_undo
    rw [if_pos hr]
    rw [ht] at hr ⊢
    obtain ⟨k, -, hk, rfl⟩ := inR_nat (a := 0) (by omega) (by omega) hr
    rw [ix_nI (show k < 100 by omega), nI_sub hk]
    refine gl_aload_n dX1_undo_18 rfl ?_
    refine gl_get (k := 4) dX1_undo_19 rfl (rfl : vwCl[1]? = some (RX1, TX1, 21)) in_X1 (by decide) q1024 rfl ?_
    refine gl_iconst (v := nI 2) dX1_undo_22 (by decide) ?_
    refine gl_iald (j := 2) dX1_undo_23 rfl rfl (by omega) ?_
    refine gl_iload_n dX1_undo_24 rfl ?_
    refine gl_isub dX1_undo_25 ?_
    rw [ht, nI_sub hk]
    refine gl_istore_n dX1_undo_26 rfl rfl ?_
    refine gl_iconst (v := nI 0) dX1_undo_27 (by decide) ?_
    refine gl_istore_n dX1_undo_28 rfl rfl ?_
    by_cases hkt : k < t
    · unfold unS
      rw [if_pos hkt]
      refine gl_mem (μ1 := mM o (sA y 23 (va_cpy (y.2.2 23) (y.2.2 23) (113 + 7 * k) 66 0))) (by rw [cpy_0]; rfl) ?_
      refine gl_loop (fun i => [some (.ref 18), some (.int (nI k)), some (.int (nI (t - k))), some (.int (nI i))]) (fun i => mM o (sA y 23 (va_cpy (y.2.2 23) (y.2.2 23) (113 + 7 * k) 66 i))) 7 ?_ ?_
      · intro i hi ih
        refine gl_iload_n dX1_undo_29 rfl ?_
        refine gl_bipush (v := nI 7) dX1_undo_30 (by decide) ?_
        refine gl_icmp_ge (tgt := 68) dX1_undo_32 (by decide) (fun h => absurd h (nI_ge hi (by omega))) (fun _ => ?_)
        refine gl_iload_n dX1_undo_35 rfl ?_
        refine gl_if_le (tgt := 68) dX1_undo_36 (by decide) (fun h => absurd h (nI_nle (by omega) (by omega))) (fun _ => ?_)
        refine gl_aload_n dX1_undo_39 rfl ?_
        refine gl_get (k := 4) dX1_undo_40 rfl (rfl : vwCl[1]? = some (RX1, TX1, 21)) in_X1 (by decide) q1024 rfl ?_
        refine gl_bipush (v := nI 66) dX1_undo_43 (by decide) ?_
        refine gl_iload_n dX1_undo_45 rfl ?_
        refine gl_iadd dX1_undo_46 ?_
        refine gl_aload_n dX1_undo_47 rfl ?_
        refine gl_get (k := 4) dX1_undo_48 rfl (rfl : vwCl[1]? = some (RX1, TX1, 21)) in_X1 (by decide) q1024 rfl ?_
        refine gl_bipush (v := nI 113) dX1_undo_51 (by decide) ?_
        refine gl_bipush (v := nI 7) dX1_undo_53 (by decide) ?_
        refine gl_iload_n dX1_undo_55 rfl ?_
        refine gl_imul dX1_undo_56 ?_
        refine gl_iadd dX1_undo_57 ?_
        refine gl_iload_n dX1_undo_58 rfl ?_
        refine gl_iadd dX1_undo_59 ?_
        refine gl_iald (j := ((113 + (7 * k)) + i)) dX1_undo_60 rfl (by simp only [nI_add, nI_mul]) (by omega) ?_
        refine gl_iast (j := (66 + i)) dX1_undo_61 rfl (by simp only [nI_add, nI_mul]) (by omega) ?_
        refine gl_mem (μ1 := mM o (sA y 23 (va_cpy (y.2.2 23) (y.2.2 23) (113 + 7 * k) 66 (i + 1)))) (by rw [← cpy_s]; show mM o (sA y 23 (upd _ _ (va_cpy _ _ _ _ _ _))) = _; rw [pk_cpy_out (by omega)]; rfl) ?_
        refine gl_iinc (v := (nI (i + 1))) dX1_undo_62 rfl (nI_1 _) rfl rfl ?_
        refine gl_goto (tgt := 29) dX1_undo_65 (by decide) ?_
        exact ih
      · refine gl_iload_n dX1_undo_29 rfl ?_
        refine gl_bipush (v := nI 7) dX1_undo_30 (by decide) ?_
        refine gl_icmp_ge (tgt := 68) dX1_undo_32 (by decide) (fun _ => ?_) (fun h => absurd (nI_le (Nat.le_refl _) (by omega)) h)
        refine gl_aload_n dX1_undo_68 rfl ?_
        refine gl_get (k := 4) dX1_undo_69 rfl (rfl : vwCl[1]? = some (RX1, TX1, 21)) in_X1 (by decide) q1024 rfl ?_
        refine gl_iconst (v := nI 2) dX1_undo_72 (by decide) ?_
        refine gl_iload_n dX1_undo_73 rfl ?_
        refine gl_iast (j := 2) dX1_undo_74 rfl rfl (by omega) ?_
        refine gl_iload_n dX1_undo_75 rfl ?_
        exact gl_iret dX1_undo_76 rfl ⟨rfl, rfl⟩
    · have e : k = t := by omega
      unfold unS
      rw [if_neg hkt]
      refine gl_iload_n dX1_undo_29 rfl ?_
      refine gl_bipush (v := nI 7) dX1_undo_30 (by decide) ?_
      refine gl_icmp_ge (tgt := 68) dX1_undo_32 (by decide) (fun h => absurd h (nI_ge (by omega) (by omega))) (fun _ => ?_)
      refine gl_iload_n dX1_undo_35 rfl ?_
      refine gl_if_le (tgt := 68) dX1_undo_36 (by decide) (fun _ => ?_) (fun h => absurd ((by rw [e, Nat.sub_self]; exact (by decide : nI 0 ≤ 0))) h)
      refine gl_aload_n dX1_undo_68 rfl ?_
      refine gl_get (k := 4) dX1_undo_69 rfl (rfl : vwCl[1]? = some (RX1, TX1, 21)) in_X1 (by decide) q1024 rfl ?_
      refine gl_iconst (v := nI 2) dX1_undo_72 (by decide) ?_
      refine gl_iload_n dX1_undo_73 rfl ?_
      refine gl_iast (j := 2) dX1_undo_74 rfl rfl (by omega) ?_
      refine gl_iload_n dX1_undo_75 rfl ?_
      exact gl_iret dX1_undo_76 rfl ⟨rfl, rfl⟩
  · unfold sp_undo
    rw [if_neg (by simp [bI_fa h13])]
    refine gl_iconst (v := (-1)) dX1_undo_16 (by decide) ?_
    exact gl_iret dX1_undo_17 rfl ⟨rfl, rfl⟩
end MJ

