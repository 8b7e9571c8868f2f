/-! the model: rows beside, what is left, by age -/
set_option maxRecDepth 100000
section MB
variable (L : Nat) (o : OY) (y : MY) {n m t : Nat}
def thB (v kd mn : Int32) : Bool := v % nI 10 == mn && (decide (kd < 0) || v / nI 10 == kd)
def thN (f : Nat → Int32) (a : Nat) (kd mn : Int32) (s : Nat) : Int32 := cntI (fun k => thB (f (a + k)) kd mn) s
theorem m_manyThere (r s : Nat) (hr : r < 6) (hs : s ≤ 40) (e : y.2.2 19 r = nI s) (kd mn : Int32) : Ct yX1_manyThere gX1_manyThere (L + 10) 0 0 [.ref 18, .int (nI r), .int kd, .int mn] (mM o y) (Rt (some (.int (thN (y.2.2 20) (40 * r) kd mn s))) (mM o y)) := by
  refine Ct.of rfl rfl rfl rfl rfl ?_
  refine gl_iconst (v := nI 0) dX1_manyThere_0 (by decide) ?_
  refine gl_istore dX1_manyThere_1 rfl rfl ?_
  refine gl_iconst (v := nI 0) dX1_manyThere_3 (by decide) ?_
  refine gl_istore dX1_manyThere_4 rfl rfl ?_
  refine gl_loop (fun k => [some (.ref 18), some (.int (nI r)), some (.int kd), some (.int mn), some (.int (thN (y.2.2 20) (40 * r) kd mn k)), some (.int (nI k)), none]) (fun _ => mM o y) s ?_ ?_
  · intro k hk ih
    refine gl_iload dX1_manyThere_6 rfl ?_
    refine gl_aload_n dX1_manyThere_8 rfl ?_
    refine gl_get (k := 0) dX1_manyThere_9 rfl (rfl : vwCl[1]? = some (RX1, TX1, 21)) in_X1 (by decide) q1020 rfl ?_
    refine gl_iload_n dX1_manyThere_12 rfl ?_
    refine gl_iald (j := r) dX1_manyThere_13 rfl rfl (by omega) ?_
    refine gl_icmp_ge (tgt := 69) dX1_manyThere_14 (by decide) (fun h => absurd h ((by rw [e]; exact nI_ge hk (by omega)))) (fun _ => ?_)
    refine gl_aload_n dX1_manyThere_17 rfl ?_
    refine gl_get (k := 1) dX1_manyThere_18 rfl (rfl : vwCl[1]? = some (RX1, TX1, 21)) in_X1 (by decide) q1021 rfl ?_
    refine gl_bipush (v := nI 40) dX1_manyThere_21 (by decide) ?_
    refine gl_iload_n dX1_manyThere_23 rfl ?_
    refine gl_imul dX1_manyThere_24 ?_
    refine gl_iload dX1_manyThere_25 rfl ?_
    refine gl_iadd dX1_manyThere_27 ?_
    refine gl_iald (j := ((40 * r) + k)) dX1_manyThere_28 rfl (by simp only [nI_add, nI_mul]) (by omega) ?_
    refine gl_istore dX1_manyThere_29 rfl rfl ?_
    refine gl_iload dX1_manyThere_31 rfl ?_
    refine gl_iload dX1_manyThere_33 rfl ?_
    refine gl_bipush (v := nI 10) dX1_manyThere_35 (by decide) ?_
    refine gl_irem dX1_manyThere_37 (by decide) ?_
    refine gl_iload_n dX1_manyThere_38 rfl ?_
    refine gl_icmp_ne (tgt := 59) dX1_manyThere_39 (by decide) (fun h39 => ?_) (fun h39 => ?_)
    · refine gl_iconst (v := nI 0) dX1_manyThere_59 (by decide) ?_
      refine gl_iadd dX1_manyThere_60 ?_
      refine gl_istore dX1_manyThere_61 rfl rfl ?_
      refine gl_iinc (v := (nI (k + 1))) dX1_manyThere_63 rfl (nI_1 _) rfl rfl ?_
      refine gl_goto (tgt := 6) dX1_manyThere_66 (by decide) ?_
      refine gl_drop 6 (gl_lcs ?_ ih); clear ih; simp [thN, thB, cntI, bI, *] <;> rfl
    · refine gl_iload_n dX1_manyThere_42 rfl ?_
      refine gl_if_lt (tgt := 55) dX1_manyThere_43 (by decide) (fun h43 => ?_) (fun h43 => ?_)
      · refine gl_iconst (v := nI 1) dX1_manyThere_55 (by decide) ?_
        refine gl_goto (tgt := 60) dX1_manyThere_56 (by decide) ?_
        refine gl_iadd dX1_manyThere_60 ?_
        refine gl_istore dX1_manyThere_61 rfl rfl ?_
        refine gl_iinc (v := (nI (k + 1))) dX1_manyThere_63 rfl (nI_1 _) rfl rfl ?_
        refine gl_goto (tgt := 6) dX1_manyThere_66 (by decide) ?_
        refine gl_drop 6 (gl_lcs ?_ ih); clear ih; simp [thN, thB, cntI, bI, *] <;> rfl
      · refine gl_iload dX1_manyThere_46 rfl ?_
        refine gl_bipush (v := nI 10) dX1_manyThere_48 (by decide) ?_
        refine gl_idiv dX1_manyThere_50 (by decide) ?_
        refine gl_iload_n dX1_manyThere_51 rfl ?_
        refine gl_icmp_ne (tgt := 59) dX1_manyThere_52 (by decide) (fun h52 => ?_) (fun h52 => ?_)
        · refine gl_iconst (v := nI 0) dX1_manyThere_59 (by decide) ?_
          refine gl_iadd dX1_manyThere_60 ?_
          refine gl_istore dX1_manyThere_61 rfl rfl ?_
          refine gl_iinc (v := (nI (k + 1))) dX1_manyThere_63 rfl (nI_1 _) rfl rfl ?_
          refine gl_goto (tgt := 6) dX1_manyThere_66 (by decide) ?_
          refine gl_drop 6 (gl_lcs ?_ ih); clear ih; simp [thN, thB, cntI, bI, *] <;> rfl
        · refine gl_iconst (v := nI 1) dX1_manyThere_55 (by decide) ?_
          refine gl_goto (tgt := 60) dX1_manyThere_56 (by decide) ?_
          refine gl_iadd dX1_manyThere_60 ?_
          refine gl_istore dX1_manyThere_61 rfl rfl ?_
          refine gl_iinc (v := (nI (k + 1))) dX1_manyThere_63 rfl (nI_1 _) rfl rfl ?_
          refine gl_goto (tgt := 6) dX1_manyThere_66 (by decide) ?_
          refine gl_drop 6 (gl_lcs ?_ ih); clear ih; simp [thN, thB, cntI, bI, *] <;> rfl
  · refine gl_iload dX1_manyThere_6 rfl ?_
    refine gl_aload_n dX1_manyThere_8 rfl ?_
    refine gl_get (k := 0) dX1_manyThere_9 rfl (rfl : vwCl[1]? = some (RX1, TX1, 21)) in_X1 (by decide) q1020 rfl ?_
    refine gl_iload_n dX1_manyThere_12 rfl ?_
    refine gl_iald (j := r) dX1_manyThere_13 rfl rfl (by omega) ?_
    refine gl_icmp_ge (tgt := 69) dX1_manyThere_14 (by decide) (fun _ => ?_) (fun h => absurd ((by rw [e]; exact nI_le (Nat.le_refl _) (by omega))) h)
    refine gl_iload dX1_manyThere_69 rfl ?_
    exact gl_iret dX1_manyThere_71 rfl ⟨rfl, rfl⟩
def heB (w : Nat → Int32) (kd mn : Int32) (c : Nat) : Bool := mns w c == mn && (decide (kd < 0) || w (3 + c) == kd)
def heN (w : Nat → Int32) (kd mn : Int32) (n : Nat) : Int32 := cntI (heB w kd mn) n
theorem m_manyHere (hL : Lb (y.2.2 23) n m t) (kd mn : Int32) : Ct yX1_manyHere gX1_manyHere (L + 11) 0 0 [.ref 18, .int kd, .int mn] (mM o y) (Rt (some (.int (heN (y.2.2 23) kd mn n))) (mM o y)) := by
  refine Ct.of rfl rfl rfl rfl rfl ?_
  have h7 := hL.c7
  refine gl_iconst (v := nI 0) dX1_manyHere_0 (by decide) ?_
  refine gl_istore_n dX1_manyHere_1 rfl rfl ?_
  refine gl_iconst (v := nI 0) dX1_manyHere_2 (by decide) ?_
  refine gl_istore dX1_manyHere_3 rfl rfl ?_
  refine gl_loop (fun k => [some (.ref 18), some (.int kd), some (.int mn), some (.int (heN (y.2.2 23) kd mn k)), some (.int (nI k))]) (fun _ => mM o y) n ?_ ?_
  · intro k hk ih
    refine gl_iload dX1_manyHere_5 rfl ?_
    refine gl_aload_n dX1_manyHere_7 rfl ?_
    refine gl_get (k := 4) dX1_manyHere_8 rfl (rfl : vwCl[1]? = some (RX1, TX1, 21)) in_X1 (by decide) q1024 rfl ?_
    refine gl_iconst (v := nI 0) dX1_manyHere_11 (by decide) ?_
    refine gl_iald (j := 0) dX1_manyHere_12 rfl rfl (by omega) ?_
    refine gl_icmp_ge (tgt := 57) dX1_manyHere_13 (by decide) (fun h => absurd h ((by rw [hL.c]; exact nI_ge hk (by omega)))) (fun _ => ?_)
    refine gl_iload_n dX1_manyHere_16 rfl ?_
    refine gl_aload_n dX1_manyHere_17 rfl ?_
    refine gl_iload dX1_manyHere_18 rfl ?_
    refine gl_callV (m_means L o y (k) (by omega) hL.kind) dX1_manyHere_20 q1184 q1186 qs53 q75 q1187 rfl hX1_means rfl (rfl : vwCl[1]? = some (RX1, TX1, 21)) rfl rfl (rmOk (by omega) rfl) ⟨by first | exact Nat.le_refl _ | exact Nat.zero_le _ | decide | (dsimp only [rm]; omega), by first | exact Nat.le_refl _ | exact Nat.zero_le _ | decide | (dsimp only [rm]; omega)⟩ (rt1 ?_)
    refine gl_iload_n dX1_manyHere_23 rfl ?_
    refine gl_icmp_ne (tgt := 48) dX1_manyHere_24 (by decide) (fun h24 => ?_) (fun h24 => ?_)
    · refine gl_iconst (v := nI 0) dX1_manyHere_48 (by decide) ?_
      refine gl_iadd dX1_manyHere_49 ?_
      refine gl_istore_n dX1_manyHere_50 rfl rfl ?_
      refine gl_iinc (v := (nI (k + 1))) dX1_manyHere_51 rfl (nI_1 _) rfl rfl ?_
      refine gl_goto (tgt := 5) dX1_manyHere_54 (by decide) ?_
      refine gl_lcs ?_ ih; clear ih; simp [heN, heB, cntI, bI, *] <;> rfl
    · refine gl_iload_n dX1_manyHere_27 rfl ?_
      refine gl_if_lt (tgt := 44) dX1_manyHere_28 (by decide) (fun h28 => ?_) (fun h28 => ?_)
      · refine gl_iconst (v := nI 1) dX1_manyHere_44 (by decide) ?_
        refine gl_goto (tgt := 49) dX1_manyHere_45 (by decide) ?_
        refine gl_iadd dX1_manyHere_49 ?_
        refine gl_istore_n dX1_manyHere_50 rfl rfl ?_
        refine gl_iinc (v := (nI (k + 1))) dX1_manyHere_51 rfl (nI_1 _) rfl rfl ?_
        refine gl_goto (tgt := 5) dX1_manyHere_54 (by decide) ?_
        refine gl_lcs ?_ ih; clear ih; simp [heN, heB, cntI, bI, *] <;> rfl
      · refine gl_aload_n dX1_manyHere_31 rfl ?_
        refine gl_get (k := 4) dX1_manyHere_32 rfl (rfl : vwCl[1]? = some (RX1, TX1, 21)) in_X1 (by decide) q1024 rfl ?_
        refine gl_iconst (v := nI 3) dX1_manyHere_35 (by decide) ?_
        refine gl_iload dX1_manyHere_36 rfl ?_
        refine gl_iadd dX1_manyHere_38 ?_
        refine gl_iald (j := (3 + k)) dX1_manyHere_39 rfl (by simp only [nI_add, nI_mul]) (by omega) ?_
        refine gl_iload_n dX1_manyHere_40 rfl ?_
        refine gl_icmp_ne (tgt := 48) dX1_manyHere_41 (by decide) (fun h41 => ?_) (fun h41 => ?_)
        · refine gl_iconst (v := nI 0) dX1_manyHere_48 (by decide) ?_
          refine gl_iadd dX1_manyHere_49 ?_
          refine gl_istore_n dX1_manyHere_50 rfl rfl ?_
          refine gl_iinc (v := (nI (k + 1))) dX1_manyHere_51 rfl (nI_1 _) rfl rfl ?_
          refine gl_goto (tgt := 5) dX1_manyHere_54 (by decide) ?_
          refine gl_lcs ?_ ih; clear ih; simp [heN, heB, cntI, bI, *] <;> rfl
        · refine gl_iconst (v := nI 1) dX1_manyHere_44 (by decide) ?_
          refine gl_goto (tgt := 49) dX1_manyHere_45 (by decide) ?_
          refine gl_iadd dX1_manyHere_49 ?_
          refine gl_istore_n dX1_manyHere_50 rfl rfl ?_
          refine gl_iinc (v := (nI (k + 1))) dX1_manyHere_51 rfl (nI_1 _) rfl rfl ?_
          refine gl_goto (tgt := 5) dX1_manyHere_54 (by decide) ?_
          refine gl_lcs ?_ ih; clear ih; simp [heN, heB, cntI, bI, *] <;> rfl
  · refine gl_iload dX1_manyHere_5 rfl ?_
    refine gl_aload_n dX1_manyHere_7 rfl ?_
    refine gl_get (k := 4) dX1_manyHere_8 rfl (rfl : vwCl[1]? = some (RX1, TX1, 21)) in_X1 (by decide) q1024 rfl ?_
    refine gl_iconst (v := nI 0) dX1_manyHere_11 (by decide) ?_
    refine gl_iald (j := 0) dX1_manyHere_12 rfl rfl (by omega) ?_
    refine gl_icmp_ge (tgt := 57) dX1_manyHere_13 (by decide) (fun _ => ?_) (fun h => absurd ((by rw [hL.c]; exact nI_le (Nat.le_refl _) (by omega))) h)
    refine gl_iload_n dX1_manyHere_57 rfl ?_
    exact gl_iret dX1_manyHere_58 rfl ⟨rfl, rfl⟩
def lsI (a b : Int32) : Int32 := if a < b then a else b
/-- loose pairs, by what is meant; pairs, by kind too -/
def bsL (f w : Nat → Int32) (a s n : Nat) : Nat → Int32
  | 0 => nI 0
  | k + 1 => bsL f w a s n k + lsI (thN f a (-1) (nI k) s) (heN w (-1) (nI k) n)
def bsK (f w : Nat → Int32) (a s n : Nat) (p : Int32) (k : Nat) : Nat → Int32
  | 0 => p
  | j + 1 => bsK f w a s n p k j + lsI (thN f a (nI j) (nI k) s) (heN w (nI j) (nI k) n)
def bsP (f w : Nat → Int32) (a s n : Nat) : Nat → Int32
  | 0 => nI 0
  | k + 1 => bsK f w a s n (bsP f w a s n k) k 6
def allI (f : Nat → Int32) (a : Nat) : Nat → Bool
  | 0 => true
  | k + 1 => allI f a k && inR (f (a + k)) 0 59
def sp_beside (y : MY) (n : Nat) (r : Int32) : Int32 × MY := if inR r 0 5 then (if y.2.2 19 (ix r) < 0 then sfnd y 1 else if nI 7 < y.2.2 19 (ix r) then sfnd y 5 else if allI (y.2.2 20) (40 * ix r) (ix (y.2.2 19 (ix r))) then (bsP (y.2.2 20) (y.2.2 23) (40 * ix r) (ix (y.2.2 19 (ix r))) n 10, sI y 7 (bsL (y.2.2 20) (y.2.2 23) (40 * ix r) (ix (y.2.2 19 (ix r))) n 10 - bsP (y.2.2 20) (y.2.2 23) (40 * ix r) (ix (y.2.2 19 (ix r))) n 10)) else sfnd y 3) else (-1, y)
theorem allI_f {f : Nat → Int32} {a k s : Nat} (h : k ≤ s) (e : allI f a k = false) : allI f a s = false := by
  induction s with
  | zero => have : k = 0 := by omega
            rw [this] at e; exact e
  | succ s ih =>
    by_cases q : k = s + 1
    · rw [← q]; exact e
    · simp only [allI, ih (by omega), Bool.false_and]
theorem m_beside (hL : Lb (y.2.2 23) n m t) (hS : szs (y.2.2 19) 6 40) (r : Int32) : Ct yX1_beside gX1_beside (L + 13) 0 0 [.ref 18, .int r] (mM o y) (RtP o (sp_beside y n r)) := by
  refine Ct.of rfl rfl rfl rfl rfl ?_
  have h7 := hL.c7
  refine gl_iload_n dX1_beside_0 rfl ?_
  refine gl_callS (m_isRow L _ _) dX1_beside_1 q1089 q1090 q75 q1091 rfl hX1_isRow rfl rfl (rmOk (by omega) rfl) ⟨by first | exact Nat.le_refl _ | exact Nat.zero_le _ | decide | (dsimp only [rm]; omega), by first | exact Nat.le_refl _ | exact Nat.zero_le _ | decide | (dsimp only [rm]; omega)⟩ (rt1 ?_)
  refine gl_if_ne (tgt := 9) dX1_beside_4 (by decide) (fun h4 => ?_) (fun h4 => ?_)
  · have hr := bI_tr h4
    obtain ⟨k, -, hk, rfl⟩ := inR_nat (a := 0) (b := 5) (by omega) (by omega) hr
    unfold sp_beside
    rw [if_pos hr, ix_nI (show k < 100 by omega)]
    refine gl_aload_n dX1_beside_9 rfl ?_
    refine gl_get (k := 0) dX1_beside_10 rfl (rfl : vwCl[1]? = some (RX1, TX1, 21)) in_X1 (by decide) q1020 rfl ?_
    refine gl_iload_n dX1_beside_13 rfl ?_
    refine gl_iald (j := k) dX1_beside_14 rfl rfl (by omega) ?_
    refine gl_if_ge (tgt := 24) dX1_beside_15 (by decide) (fun h15 => ?_) (fun h15 => ?_)
    · rw [if_neg (k2_nlt h15)]
      obtain ⟨s, hs, e⟩ := sz_lt (by omega) hS (show k < 6 by omega) (k2_nlt h15)
      refine gl_aload_n dX1_beside_24 rfl ?_
      refine gl_get (k := 0) dX1_beside_25 rfl (rfl : vwCl[1]? = some (RX1, TX1, 21)) in_X1 (by decide) q1020 rfl ?_
      refine gl_iload_n dX1_beside_28 rfl ?_
      refine gl_iald (j := k) dX1_beside_29 rfl rfl (by omega) ?_
      refine gl_bipush (v := nI 7) dX1_beside_30 (by decide) ?_
      refine gl_icmp_le (tgt := 41) dX1_beside_32 (by decide) (fun h32 => ?_) (fun h32 => ?_)
      · rw [if_neg (k2_nlt h32)]
        rw [e, ix_nI (show s < 100 by omega)]
        refine gl_iconst (v := nI 0) dX1_beside_41 (by decide) ?_
        refine gl_istore_n dX1_beside_42 rfl rfl ?_
        have key : ∀ j i, j = s - i → i ≤ s → allI (y.2.2 20) (40 * k) i = true → GL gX1_beside (rm (L + 13) 0 0) (RtP o (if allI (y.2.2 20) (40 * k) s = true then (bsP (y.2.2 20) (y.2.2 23) (40 * k) s n 10, sI y 7 (bsL (y.2.2 20) (y.2.2 23) (40 * k) s n 10 - bsP (y.2.2 20) (y.2.2 23) (40 * k) s n 10)) else sfnd y 3)) 0 0 43 [some (.ref 18), some (.int (nI k)), some (.int (nI i)), none, none, none] [] (mM o y) := by
          intro j
          induction j with
          | zero =>
            intro i hj hi ha
            have es : i = s := by omega
            subst es
            rw [if_pos ha]
            refine gl_iload_n dX1_beside_43 rfl ?_
            refine gl_aload_n dX1_beside_44 rfl ?_
            refine gl_get (k := 0) dX1_beside_45 rfl (rfl : vwCl[1]? = some (RX1, TX1, 21)) in_X1 (by decide) q1020 rfl ?_
            refine gl_iload_n dX1_beside_48 rfl ?_
            refine gl_iald (j := k) dX1_beside_49 rfl rfl (by omega) ?_
            refine gl_icmp_ge (tgt := 87) dX1_beside_50 (by decide) (fun _ => ?_) (fun h => absurd ((by rw [e]; exact nI_le (Nat.le_refl _) (by omega))) h)
            refine gl_iconst (v := nI 0) dX1_beside_87 (by decide) ?_
            refine gl_istore_n dX1_beside_88 rfl rfl ?_
            refine gl_iconst (v := nI 0) dX1_beside_89 (by decide) ?_
            refine gl_istore_n dX1_beside_90 rfl rfl ?_
            refine gl_iconst (v := nI 0) dX1_beside_91 (by decide) ?_
            refine gl_istore dX1_beside_92 rfl rfl ?_
            refine gl_loop (fun z => [some (.ref 18), some (.int (nI k)), some (.int (bsP (y.2.2 20) (y.2.2 23) (40 * k) i n z)), some (.int (bsL (y.2.2 20) (y.2.2 23) (40 * k) i n z)), some (.int (nI z)), none]) (fun _ => mM o y) 10 ?_ ?_
            · intro z hz ih
              refine gl_iload dX1_beside_94 rfl ?_
              refine gl_bipush (v := nI 10) dX1_beside_96 (by decide) ?_
              refine gl_icmp_ge (tgt := 167) dX1_beside_98 (by decide) (fun h => absurd h (nI_ge hz (by omega))) (fun _ => ?_)
              refine gl_iload_n dX1_beside_101 rfl ?_
              refine gl_aload_n dX1_beside_102 rfl ?_
              refine gl_iload_n dX1_beside_103 rfl ?_
              refine gl_iconst (v := (-1)) dX1_beside_104 (by decide) ?_
              refine gl_iload dX1_beside_105 rfl ?_
              refine gl_callV (m_manyThere L o y k i (by omega) hs e _ _) dX1_beside_107 q1362 q1364 qs69 q75 q1365 rfl hX1_manyThere rfl (rfl : vwCl[1]? = some (RX1, TX1, 21)) rfl rfl (rmOk (by omega) rfl) ⟨by first | exact Nat.le_refl _ | exact Nat.zero_le _ | decide | (dsimp only [rm]; omega), by first | exact Nat.le_refl _ | exact Nat.zero_le _ | decide | (dsimp only [rm]; omega)⟩ (rt1 ?_)
              refine gl_aload_n dX1_beside_110 rfl ?_
              refine gl_iconst (v := (-1)) dX1_beside_111 (by decide) ?_
              refine gl_iload dX1_beside_112 rfl ?_
              refine gl_callV (m_manyHere L o y hL _ _) dX1_beside_114 q1366 q1368 qs70 q75 q1369 rfl hX1_manyHere rfl (rfl : vwCl[1]? = some (RX1, TX1, 21)) rfl rfl (rmOk (by omega) rfl) ⟨by first | exact Nat.le_refl _ | exact Nat.zero_le _ | decide | (dsimp only [rm]; omega), by first | exact Nat.le_refl _ | exact Nat.zero_le _ | decide | (dsimp only [rm]; omega)⟩ (rt1 ?_)
              refine gl_callS (m_lesser L _ _ _) dX1_beside_117 q1370 q1371 q75 q1372 rfl hX1_lesser rfl rfl (rmOk (by omega) rfl) ⟨by first | exact Nat.le_refl _ | exact Nat.zero_le _ | decide | (dsimp only [rm]; omega), by first | exact Nat.le_refl _ | exact Nat.zero_le _ | decide | (dsimp only [rm]; omega)⟩ (rt1 ?_)
              refine gl_iadd dX1_beside_120 ?_
              refine gl_istore_n dX1_beside_121 rfl rfl ?_
              refine gl_iconst (v := nI 0) dX1_beside_122 (by decide) ?_
              refine gl_istore dX1_beside_123 rfl rfl ?_
              refine gl_loop (fun j => [some (.ref 18), some (.int (nI k)), some (.int (bsK (y.2.2 20) (y.2.2 23) (40 * k) i n (bsP (y.2.2 20) (y.2.2 23) (40 * k) i n z) z j)), some (.int (bsL (y.2.2 20) (y.2.2 23) (40 * k) i n (z + 1))), some (.int (nI z)), some (.int (nI j))]) (fun _ => mM o y) 6 ?_ ?_
              · intro j hj ih2
                refine gl_iload dX1_beside_125 rfl ?_
                refine gl_bipush (v := nI 6) dX1_beside_127 (by decide) ?_
                refine gl_icmp_ge (tgt := 161) dX1_beside_129 (by decide) (fun h => absurd h (nI_ge hj (by omega))) (fun _ => ?_)
                refine gl_iload_n dX1_beside_132 rfl ?_
                refine gl_aload_n dX1_beside_133 rfl ?_
                refine gl_iload_n dX1_beside_134 rfl ?_
                refine gl_iload dX1_beside_135 rfl ?_
                refine gl_iload dX1_beside_137 rfl ?_
                refine gl_callV (m_manyThere L o y k i (by omega) hs e _ _) dX1_beside_139 q1362 q1364 qs69 q75 q1365 rfl hX1_manyThere rfl (rfl : vwCl[1]? = some (RX1, TX1, 21)) rfl rfl (rmOk (by omega) rfl) ⟨by first | exact Nat.le_refl _ | exact Nat.zero_le _ | decide | (dsimp only [rm]; omega), by first | exact Nat.le_refl _ | exact Nat.zero_le _ | decide | (dsimp only [rm]; omega)⟩ (rt1 ?_)
                refine gl_aload_n dX1_beside_142 rfl ?_
                refine gl_iload dX1_beside_143 rfl ?_
                refine gl_iload dX1_beside_145 rfl ?_
                refine gl_callV (m_manyHere L o y hL _ _) dX1_beside_147 q1366 q1368 qs70 q75 q1369 rfl hX1_manyHere rfl (rfl : vwCl[1]? = some (RX1, TX1, 21)) rfl rfl (rmOk (by omega) rfl) ⟨by first | exact Nat.le_refl _ | exact Nat.zero_le _ | decide | (dsimp only [rm]; omega), by first | exact Nat.le_refl _ | exact Nat.zero_le _ | decide | (dsimp only [rm]; omega)⟩ (rt1 ?_)
                refine gl_callS (m_lesser L _ _ _) dX1_beside_150 q1370 q1371 q75 q1372 rfl hX1_lesser rfl rfl (rmOk (by omega) rfl) ⟨by first | exact Nat.le_refl _ | exact Nat.zero_le _ | decide | (dsimp only [rm]; omega), by first | exact Nat.le_refl _ | exact Nat.zero_le _ | decide | (dsimp only [rm]; omega)⟩ (rt1 ?_)
                refine gl_iadd dX1_beside_153 ?_
                refine gl_istore_n dX1_beside_154 rfl rfl ?_
                refine gl_iinc (v := (nI (j + 1))) dX1_beside_155 rfl (nI_1 _) rfl rfl ?_
                refine gl_goto (tgt := 125) dX1_beside_158 (by decide) ?_
                exact ih2
              · refine gl_iload dX1_beside_125 rfl ?_
                refine gl_bipush (v := nI 6) dX1_beside_127 (by decide) ?_
                refine gl_icmp_ge (tgt := 161) dX1_beside_129 (by decide) (fun _ => ?_) (fun h => absurd (nI_le (Nat.le_refl _) (by omega)) h)
                refine gl_iinc (v := (nI (z + 1))) dX1_beside_161 rfl (nI_1 _) rfl rfl ?_
                refine gl_goto (tgt := 94) dX1_beside_164 (by decide) ?_
                refine gl_drop 5 ?_
                exact ih
            · refine gl_iload dX1_beside_94 rfl ?_
              refine gl_bipush (v := nI 10) dX1_beside_96 (by decide) ?_
              refine gl_icmp_ge (tgt := 167) dX1_beside_98 (by decide) (fun _ => ?_) (fun h => absurd (nI_le (Nat.le_refl _) (by omega)) h)
              refine gl_aload_n dX1_beside_167 rfl ?_
              refine gl_iload_n dX1_beside_168 rfl ?_
              refine gl_iload_n dX1_beside_169 rfl ?_
              refine gl_isub dX1_beside_170 ?_
              refine gl_callV (m_tell L o y _) dX1_beside_171 q1104 q1106 qs45 q75 q1107 rfl hX1_tell rfl (rfl : vwCl[1]? = some (RX1, TX1, 21)) rfl rfl (rmOk (by omega) rfl) ⟨by first | exact Nat.le_refl _ | exact Nat.zero_le _ | decide | (dsimp only [rm]; omega), by first | exact Nat.le_refl _ | exact Nat.zero_le _ | decide | (dsimp only [rm]; omega)⟩ (rt1 ?_)
              refine gl_istore dX1_beside_174 rfl rfl ?_
              refine gl_iload_n dX1_beside_176 rfl ?_
              exact gl_iret dX1_beside_177 rfl ⟨rfl, rfl⟩
          | succ j ih =>
            intro i hj hi ha
            refine gl_iload_n dX1_beside_43 rfl ?_
            refine gl_aload_n dX1_beside_44 rfl ?_
            refine gl_get (k := 0) dX1_beside_45 rfl (rfl : vwCl[1]? = some (RX1, TX1, 21)) in_X1 (by decide) q1020 rfl ?_
            refine gl_iload_n dX1_beside_48 rfl ?_
            refine gl_iald (j := k) dX1_beside_49 rfl rfl (by omega) ?_
            refine gl_icmp_ge (tgt := 87) dX1_beside_50 (by decide) (fun h => absurd h ((by rw [e]; exact nI_ge (by omega) (by omega)))) (fun _ => ?_)
            refine gl_aload_n dX1_beside_53 rfl ?_
            refine gl_get (k := 1) dX1_beside_54 rfl (rfl : vwCl[1]? = some (RX1, TX1, 21)) in_X1 (by decide) q1021 rfl ?_
            refine gl_bipush (v := nI 40) dX1_beside_57 (by decide) ?_
            refine gl_iload_n dX1_beside_59 rfl ?_
            refine gl_imul dX1_beside_60 ?_
            refine gl_iload_n dX1_beside_61 rfl ?_
            refine gl_iadd dX1_beside_62 ?_
            refine gl_iald (j := ((40 * k) + i)) dX1_beside_63 rfl (by simp only [nI_add, nI_mul]) (by omega) ?_
            refine gl_i2l dX1_beside_64 ?_
            refine gl_lconst (v := 0) dX1_beside_65 (by decide) ?_
            refine gl_ldc2 (v := 59) q1144 dX1_beside_66 ?_
            refine gl_callS (m_in_i L _ _ 0 59 rfl rfl) dX1_beside_69 q1093 q1094 q75 q1095 rfl hX1_in rfl rfl (rmOk (by omega) rfl) ⟨by first | exact Nat.le_refl _ | exact Nat.zero_le _ | decide | (dsimp only [rm]; omega), by first | exact Nat.le_refl _ | exact Nat.zero_le _ | decide | (dsimp only [rm]; omega)⟩ (rt1 ?_)
            refine gl_if_ne (tgt := 81) dX1_beside_72 (by decide) (fun h72 => ?_) (fun h72 => ?_)
            · refine gl_iinc (v := (nI (i + 1))) dX1_beside_81 rfl (nI_1 _) rfl rfl ?_
              refine gl_goto (tgt := 43) dX1_beside_84 (by decide) ?_
              exact ih (i + 1) (by omega) (by omega) (by simp only [allI, ha, bI_tr h72, Bool.true_and])
            · rw [if_neg (by rw [allI_f (show i + 1 ≤ s by omega) (by simp only [allI, bI_fa h72, Bool.and_false])]; exact Bool.false_ne_true)]
              refine gl_aload_n dX1_beside_75 rfl ?_
              refine gl_iconst (v := nI 3) dX1_beside_76 (by decide) ?_
              refine gl_callV (m_found L o y (3) (by omega)) dX1_beside_77 q1096 q1098 qs44 q75 q1099 rfl hX1_found rfl (rfl : vwCl[1]? = some (RX1, TX1, 21)) rfl rfl (rmOk (by omega) rfl) ⟨by first | exact Nat.le_refl _ | exact Nat.zero_le _ | decide | (dsimp only [rm]; omega), by first | exact Nat.le_refl _ | exact Nat.zero_le _ | decide | (dsimp only [rm]; omega)⟩ (rt1 ?_)
              exact gl_iret dX1_beside_80 rfl ⟨rfl, rfl⟩
        exact key s 0 rfl (Nat.zero_le _) rfl
      · rw [if_pos (k2_lt h32)]
        refine gl_aload_n dX1_beside_35 rfl ?_
        refine gl_iconst (v := nI 5) dX1_beside_36 (by decide) ?_
        refine gl_callV (m_found L o y (5) (by omega)) dX1_beside_37 q1096 q1098 qs44 q75 q1099 rfl hX1_found rfl (rfl : vwCl[1]? = some (RX1, TX1, 21)) rfl rfl (rmOk (by omega) rfl) ⟨by first | exact Nat.le_refl _ | exact Nat.zero_le _ | decide | (dsimp only [rm]; omega), by first | exact Nat.le_refl _ | exact Nat.zero_le _ | decide | (dsimp only [rm]; omega)⟩ (rt1 ?_)
        exact gl_iret dX1_beside_40 rfl ⟨rfl, rfl⟩
    · rw [if_pos (k2_lt h15)]
      refine gl_aload_n dX1_beside_18 rfl ?_
      refine gl_iconst (v := nI 1) dX1_beside_19 (by decide) ?_
      refine gl_callV (m_found L o y (1) (by omega)) dX1_beside_20 q1096 q1098 qs44 q75 q1099 rfl hX1_found rfl (rfl : vwCl[1]? = some (RX1, TX1, 21)) rfl rfl (rmOk (by omega) rfl) ⟨by first | exact Nat.le_refl _ | exact Nat.zero_le _ | decide | (dsimp only [rm]; omega), by first | exact Nat.le_refl _ | exact Nat.zero_le _ | decide | (dsimp only [rm]; omega)⟩ (rt1 ?_)
      exact gl_iret dX1_beside_23 rfl ⟨rfl, rfl⟩
  · unfold sp_beside
    rw [if_neg (by simp [bI_fa h4])]
    refine gl_iconst (v := (-1)) dX1_beside_7 (by decide) ?_
    exact gl_iret dX1_beside_8 rfl ⟨rfl, rfl⟩
def oneB (v : Int32) : Bool := v &&& (v - nI 1) == 0
theorem m_isOne (μ : Mem) (v : Int32) : Ct yX1_isOne gX1_isOne (L + 10) 0 0 [.int v] μ (Rt (some (.int (bI (oneB v)))) μ) := by
  refine Ct.of rfl rfl rfl rfl rfl ?_
  refine gl_iload_n dX1_isOne_0 rfl ?_
  refine gl_iload_n dX1_isOne_1 rfl ?_
  refine gl_iconst (v := nI 1) dX1_isOne_2 (by decide) ?_
  refine gl_isub dX1_isOne_3 ?_
  refine gl_iand dX1_isOne_4 ?_
  refine gl_if_ne (tgt := 12) dX1_isOne_5 (by decide) (fun h5 => ?_) (fun h5 => ?_)
  · refine gl_iconst (v := nI 0) dX1_isOne_12 (by decide) ?_
    exact gl_zret dX1_isOne_13 rfl (by decide) ⟨by simp_all [oneB, bI, nI], rfl⟩
  · refine gl_iconst (v := nI 1) dX1_isOne_8 (by decide) ?_
    refine gl_goto (tgt := 13) dX1_isOne_9 (by decide) ?_
    exact gl_zret dX1_isOne_13 rfl (by decide) ⟨by simp_all [oneB, bI, nI], rfl⟩
end MB

