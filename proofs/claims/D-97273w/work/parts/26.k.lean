/-! the model: may match, forged, never, worlds, marks -/
set_option maxRecDepth 100000
section MK
variable (L : Nat) (o : OY) (y : MY) {n m t : Nat}
def okT (w : Nat → Int32) (q c : Nat) : Bool := w (59 + q) == -9 || w (59 + q) == mns w c
def mayB (w : Nat → Int32) (m q c : Nat) : Bool := frQ w q && frC w m c && fitB w q c && okT w q c
theorem m_mayMatch (hL : Lb (y.2.2 23) n m t) (q c : Nat) (hq : q < 7) (hc : c < 7) : Ct yX1_mayMatch gX1_mayMatch (L + 13) 0 0 [.ref 18, .int (nI q), .int (nI c)] (mM o y) (Rt (some (.int (bI (mayB (y.2.2 23) m q c)))) (mM o y)) := by
  refine Ct.of rfl rfl rfl rfl rfl ?_
  refine gl_aload_n dX1_mayMatch_0 rfl ?_
  refine gl_iload_n dX1_mayMatch_1 rfl ?_
  refine gl_callV (m_isFree L o y (q) (by omega)) dX1_mayMatch_2 q1240 q1242 qs59 q75 q1243 rfl hX1_isFree rfl (rfl : vwCl[1]? = some (RX1, TX1, 21)) rfl rfl (rmOk (by omega) rfl) ⟨by first | exact Nat.le_refl _ | exact Nat.zero_le _ | decide | (dsimp only [rm]; omega), by first | exact Nat.le_refl _ | exact Nat.zero_le _ | decide | (dsimp only [rm]; omega)⟩ (rt1 ?_)
  refine gl_if_eq (tgt := 60) dX1_mayMatch_5 (by decide) (fun h5 => ?_) (fun h5 => ?_)
  · refine gl_iconst (v := nI 0) dX1_mayMatch_60 (by decide) ?_
    exact gl_zret dX1_mayMatch_61 rfl (by decide) ⟨by simp_all [mayB, okT, bI, nI], rfl⟩
  · refine gl_aload_n dX1_mayMatch_8 rfl ?_
    refine gl_iload_n dX1_mayMatch_9 rfl ?_
    refine gl_callV (m_isFreeCard L o y hL (c)) dX1_mayMatch_10 q1244 q1246 qs60 q75 q1247 rfl hX1_isFreeCard rfl (rfl : vwCl[1]? = some (RX1, TX1, 21)) rfl rfl (rmOk (by omega) rfl) ⟨by first | exact Nat.le_refl _ | exact Nat.zero_le _ | decide | (dsimp only [rm]; omega), by first | exact Nat.le_refl _ | exact Nat.zero_le _ | decide | (dsimp only [rm]; omega)⟩ (rt1 ?_)
    refine gl_if_eq (tgt := 60) dX1_mayMatch_13 (by decide) (fun h13 => ?_) (fun h13 => ?_)
    · refine gl_iconst (v := nI 0) dX1_mayMatch_60 (by decide) ?_
      exact gl_zret dX1_mayMatch_61 rfl (by decide) ⟨by simp_all [mayB, okT, bI, nI], rfl⟩
    · refine gl_aload_n dX1_mayMatch_16 rfl ?_
      refine gl_iload_n dX1_mayMatch_17 rfl ?_
      refine gl_iload_n dX1_mayMatch_18 rfl ?_
      refine gl_callV (m_isFit L o y hL (q) (c) (by omega) (by omega)) dX1_mayMatch_19 q1207 q1209 qs56 q75 q1210 rfl hX1_isFit rfl (rfl : vwCl[1]? = some (RX1, TX1, 21)) rfl rfl (rmOk (by omega) rfl) ⟨by first | exact Nat.le_refl _ | exact Nat.zero_le _ | decide | (dsimp only [rm]; omega), by first | exact Nat.le_refl _ | exact Nat.zero_le _ | decide | (dsimp only [rm]; omega)⟩ (rt1 ?_)
      refine gl_if_eq (tgt := 60) dX1_mayMatch_22 (by decide) (fun h22 => ?_) (fun h22 => ?_)
      · refine gl_iconst (v := nI 0) dX1_mayMatch_60 (by decide) ?_
        exact gl_zret dX1_mayMatch_61 rfl (by decide) ⟨by simp_all [mayB, okT, bI, nI], rfl⟩
      · refine gl_aload_n dX1_mayMatch_25 rfl ?_
        refine gl_get (k := 4) dX1_mayMatch_26 rfl (rfl : vwCl[1]? = some (RX1, TX1, 21)) in_X1 (by decide) q1024 rfl ?_
        refine gl_bipush (v := nI 59) dX1_mayMatch_29 (by decide) ?_
        refine gl_iload_n dX1_mayMatch_31 rfl ?_
        refine gl_iadd dX1_mayMatch_32 ?_
        refine gl_iald (j := (59 + q)) dX1_mayMatch_33 rfl (by simp only [nI_add, nI_mul]) (by omega) ?_
        refine gl_bipush (v := (-9)) dX1_mayMatch_34 (by decide) ?_
        refine gl_icmp_eq (tgt := 56) dX1_mayMatch_36 (by decide) (fun h36 => ?_) (fun h36 => ?_)
        · refine gl_iconst (v := nI 1) dX1_mayMatch_56 (by decide) ?_
          refine gl_goto (tgt := 61) dX1_mayMatch_57 (by decide) ?_
          exact gl_zret dX1_mayMatch_61 rfl (by decide) ⟨by simp_all [mayB, okT, bI, nI], rfl⟩
        · refine gl_aload_n dX1_mayMatch_39 rfl ?_
          refine gl_get (k := 4) dX1_mayMatch_40 rfl (rfl : vwCl[1]? = some (RX1, TX1, 21)) in_X1 (by decide) q1024 rfl ?_
          refine gl_bipush (v := nI 59) dX1_mayMatch_43 (by decide) ?_
          refine gl_iload_n dX1_mayMatch_45 rfl ?_
          refine gl_iadd dX1_mayMatch_46 ?_
          refine gl_iald (j := (59 + q)) dX1_mayMatch_47 rfl (by simp only [nI_add, nI_mul]) (by omega) ?_
          refine gl_aload_n dX1_mayMatch_48 rfl ?_
          refine gl_iload_n dX1_mayMatch_49 rfl ?_
          refine gl_callV (m_means L o y (c) (by omega) hL.kind) dX1_mayMatch_50 q1184 q1186 qs53 q75 q1187 rfl hX1_means rfl (rfl : vwCl[1]? = some (RX1, TX1, 21)) rfl rfl (rmOk (by omega) rfl) ⟨by first | exact Nat.le_refl _ | exact Nat.zero_le _ | decide | (dsimp only [rm]; omega), by first | exact Nat.le_refl _ | exact Nat.zero_le _ | decide | (dsimp only [rm]; omega)⟩ (rt1 ?_)
          refine gl_icmp_ne (tgt := 60) dX1_mayMatch_53 (by decide) (fun h53 => ?_) (fun h53 => ?_)
          · refine gl_iconst (v := nI 0) dX1_mayMatch_60 (by decide) ?_
            exact gl_zret dX1_mayMatch_61 rfl (by decide) ⟨by simp_all [mayB, okT, bI, nI], rfl⟩
          · refine gl_iconst (v := nI 1) dX1_mayMatch_56 (by decide) ?_
            refine gl_goto (tgt := 61) dX1_mayMatch_57 (by decide) ?_
            exact gl_zret dX1_mayMatch_61 rfl (by decide) ⟨by simp_all [mayB, okT, bI, nI], rfl⟩
def mfN (w : Nat → Int32) (k f g : Int32) (n : Nat) : Int32 := cntI (fun c => suB w c k f g) n
theorem m_manyFit (hL : Lb (y.2.2 23) n m t) (kd f g : Int32) : Ct yX1_manyFit gX1_manyFit (L + 13) 0 0 [.ref 18, .int kd, .int f, .int g] (mM o y) (Rt (some (.int (mfN (y.2.2 23) kd f g n))) (mM o y)) := by
  refine Ct.of rfl rfl rfl rfl rfl ?_
  have h7 := hL.c7
  refine gl_iconst (v := nI 0) dX1_manyFit_0 (by decide) ?_
  refine gl_istore dX1_manyFit_1 rfl rfl ?_
  refine gl_iconst (v := nI 0) dX1_manyFit_3 (by decide) ?_
  refine gl_istore dX1_manyFit_4 rfl rfl ?_
  refine gl_loop (fun k => [some (.ref 18), some (.int kd), some (.int f), some (.int g), some (.int (mfN (y.2.2 23) kd f g k)), some (.int (nI k))]) (fun _ => mM o y) n ?_ ?_
  · intro k hk ih
    refine gl_iload dX1_manyFit_6 rfl ?_
    refine gl_aload_n dX1_manyFit_8 rfl ?_
    refine gl_get (k := 4) dX1_manyFit_9 rfl (rfl : vwCl[1]? = some (RX1, TX1, 21)) in_X1 (by decide) q1024 rfl ?_
    refine gl_iconst (v := nI 0) dX1_manyFit_12 (by decide) ?_
    refine gl_iald (j := 0) dX1_manyFit_13 rfl rfl (by omega) ?_
    refine gl_icmp_ge (tgt := 45) dX1_manyFit_14 (by decide) (fun h => absurd h ((by rw [hL.c]; exact nI_ge hk (by omega)))) (fun _ => ?_)
    refine gl_iload dX1_manyFit_17 rfl ?_
    refine gl_aload_n dX1_manyFit_19 rfl ?_
    refine gl_iload dX1_manyFit_20 rfl ?_
    refine gl_iload_n dX1_manyFit_22 rfl ?_
    refine gl_iload_n dX1_manyFit_23 rfl ?_
    refine gl_iload_n dX1_manyFit_24 rfl ?_
    refine gl_callV (m_suits L o y hL (k) (by omega) _ _ _) dX1_manyFit_25 q1211 q1213 qs57 q75 q1214 rfl hX1_suits rfl (rfl : vwCl[1]? = some (RX1, TX1, 21)) rfl rfl (rmOk (by omega) rfl) ⟨by first | exact Nat.le_refl _ | exact Nat.zero_le _ | decide | (dsimp only [rm]; omega), by first | exact Nat.le_refl _ | exact Nat.zero_le _ | decide | (dsimp only [rm]; omega)⟩ (rt1 ?_)
    refine gl_if_eq (tgt := 35) dX1_manyFit_28 (by decide) (fun h28 => ?_) (fun h28 => ?_)
    · refine gl_iconst (v := nI 0) dX1_manyFit_35 (by decide) ?_
      refine gl_iadd dX1_manyFit_36 ?_
      refine gl_istore dX1_manyFit_37 rfl rfl ?_
      refine gl_iinc (v := (nI (k + 1))) dX1_manyFit_39 rfl (nI_1 _) rfl rfl ?_
      refine gl_goto (tgt := 6) dX1_manyFit_42 (by decide) ?_
      exact cast (by simp_all [mfN, cntI, bI, nI]) ih
    · refine gl_iconst (v := nI 1) dX1_manyFit_31 (by decide) ?_
      refine gl_goto (tgt := 36) dX1_manyFit_32 (by decide) ?_
      refine gl_iadd dX1_manyFit_36 ?_
      refine gl_istore dX1_manyFit_37 rfl rfl ?_
      refine gl_iinc (v := (nI (k + 1))) dX1_manyFit_39 rfl (nI_1 _) rfl rfl ?_
      refine gl_goto (tgt := 6) dX1_manyFit_42 (by decide) ?_
      exact cast (by simp_all [mfN, cntI, bI, nI]) ih
  · refine gl_iload dX1_manyFit_6 rfl ?_
    refine gl_aload_n dX1_manyFit_8 rfl ?_
    refine gl_get (k := 4) dX1_manyFit_9 rfl (rfl : vwCl[1]? = some (RX1, TX1, 21)) in_X1 (by decide) q1024 rfl ?_
    refine gl_iconst (v := nI 0) dX1_manyFit_12 (by decide) ?_
    refine gl_iald (j := 0) dX1_manyFit_13 rfl rfl (by omega) ?_
    refine gl_icmp_ge (tgt := 45) dX1_manyFit_14 (by decide) (fun _ => ?_) (fun h => absurd ((by rw [hL.c]; exact nI_le (Nat.le_refl _) (by omega))) h)
    refine gl_iload dX1_manyFit_45 rfl ?_
    exact gl_iret dX1_manyFit_47 rfl ⟨rfl, rfl⟩
/-- how many questions a card fits -/
def ftN (w : Nat → Int32) (c m : Nat) : Int32 := cntI (fun q => fitB w q c) m
def fgS (w : Nat → Int32) (m : Nat) : Nat → Int32 × Int32
  | 0 => (-9, -1)
  | k + 1 => (if (fgS w m k).2 < ftN w k m then nI k else (fgS w m k).1, if (fgS w m k).2 < ftN w k m then ftN w k m else (fgS w m k).2)
def sp_forged (y : MY) (n m : Nat) : Int32 × MY := if (fgS (y.2.2 23) m n).1 = -9 then (-9, y) else ((fgS (y.2.2 23) m n).1, sI y 7 (fgS (y.2.2 23) m n).2)
theorem m_forged (hL : Lb (y.2.2 23) n m t) : Ct yX1_forged gX1_forged (L + 13) 0 0 [.ref 18] (mM o y) (RtP o (sp_forged y n m)) := by
  refine Ct.of rfl rfl rfl rfl rfl ?_
  have h7 := hL.c7
  have h7q := hL.q7
  refine gl_bipush (v := (-9)) dX1_forged_0 (by decide) ?_
  refine gl_istore_n dX1_forged_2 rfl rfl ?_
  refine gl_iconst (v := (-1)) dX1_forged_3 (by decide) ?_
  refine gl_istore_n dX1_forged_4 rfl rfl ?_
  refine gl_iconst (v := nI 0) dX1_forged_5 (by decide) ?_
  refine gl_istore_n dX1_forged_6 rfl rfl ?_
  refine gl_loop (fun k => [some (.ref 18), some (.int (fgS (y.2.2 23) m k).1), some (.int (fgS (y.2.2 23) m k).2), some (.int (nI k)), none, none]) (fun _ => mM o y) n ?_ ?_
  · intro k hk ih
    refine gl_iload_n dX1_forged_7 rfl ?_
    refine gl_aload_n dX1_forged_8 rfl ?_
    refine gl_get (k := 4) dX1_forged_9 rfl (rfl : vwCl[1]? = some (RX1, TX1, 21)) in_X1 (by decide) q1024 rfl ?_
    refine gl_iconst (v := nI 0) dX1_forged_12 (by decide) ?_
    refine gl_iald (j := 0) dX1_forged_13 rfl rfl (by omega) ?_
    refine gl_icmp_ge (tgt := 91) dX1_forged_14 (by decide) (fun h => absurd h ((by rw [hL.c]; exact nI_ge hk (by omega)))) (fun _ => ?_)
    refine gl_iconst (v := nI 0) dX1_forged_17 (by decide) ?_
    refine gl_istore dX1_forged_18 rfl rfl ?_
    refine gl_iconst (v := nI 0) dX1_forged_20 (by decide) ?_
    refine gl_istore dX1_forged_21 rfl rfl ?_
    refine gl_loop (fun q => [some (.ref 18), some (.int (fgS (y.2.2 23) m k).1), some (.int (fgS (y.2.2 23) m k).2), some (.int (nI k)), some (.int (ftN (y.2.2 23) k q)), some (.int (nI q))]) (fun _ => mM o y) m ?_ ?_
    · intro q hq ih2
      refine gl_iload dX1_forged_23 rfl ?_
      refine gl_aload_n dX1_forged_25 rfl ?_
      refine gl_get (k := 4) dX1_forged_26 rfl (rfl : vwCl[1]? = some (RX1, TX1, 21)) in_X1 (by decide) q1024 rfl ?_
      refine gl_iconst (v := nI 1) dX1_forged_29 (by decide) ?_
      refine gl_iald (j := 1) dX1_forged_30 rfl rfl (by omega) ?_
      refine gl_icmp_ge (tgt := 60) dX1_forged_31 (by decide) (fun h => absurd h ((by rw [hL.q]; exact nI_ge hq (by omega)))) (fun _ => ?_)
      refine gl_iload dX1_forged_34 rfl ?_
      refine gl_aload_n dX1_forged_36 rfl ?_
      refine gl_iload dX1_forged_37 rfl ?_
      refine gl_iload_n dX1_forged_39 rfl ?_
      refine gl_callV (m_isFit L o y hL (q) (k) (by omega) (by omega)) dX1_forged_40 q1207 q1209 qs56 q75 q1210 rfl hX1_isFit rfl (rfl : vwCl[1]? = some (RX1, TX1, 21)) rfl rfl (rmOk (by omega) rfl) ⟨by first | exact Nat.le_refl _ | exact Nat.zero_le _ | decide | (dsimp only [rm]; omega), by first | exact Nat.le_refl _ | exact Nat.zero_le _ | decide | (dsimp only [rm]; omega)⟩ (rt1 ?_)
      refine gl_if_eq (tgt := 50) dX1_forged_43 (by decide) (fun h43 => ?_) (fun h43 => ?_)
      · refine gl_iconst (v := nI 0) dX1_forged_50 (by decide) ?_
        refine gl_iadd dX1_forged_51 ?_
        refine gl_istore dX1_forged_52 rfl rfl ?_
        refine gl_iinc (v := (nI (q + 1))) dX1_forged_54 rfl (nI_1 _) rfl rfl ?_
        refine gl_goto (tgt := 23) dX1_forged_57 (by decide) ?_
        exact cast (by simp_all [ftN, cntI, bI, nI]) ih2
      · refine gl_iconst (v := nI 1) dX1_forged_46 (by decide) ?_
        refine gl_goto (tgt := 51) dX1_forged_47 (by decide) ?_
        refine gl_iadd dX1_forged_51 ?_
        refine gl_istore dX1_forged_52 rfl rfl ?_
        refine gl_iinc (v := (nI (q + 1))) dX1_forged_54 rfl (nI_1 _) rfl rfl ?_
        refine gl_goto (tgt := 23) dX1_forged_57 (by decide) ?_
        exact cast (by simp_all [ftN, cntI, bI, nI]) ih2
    · refine gl_iload dX1_forged_23 rfl ?_
      refine gl_aload_n dX1_forged_25 rfl ?_
      refine gl_get (k := 4) dX1_forged_26 rfl (rfl : vwCl[1]? = some (RX1, TX1, 21)) in_X1 (by decide) q1024 rfl ?_
      refine gl_iconst (v := nI 1) dX1_forged_29 (by decide) ?_
      refine gl_iald (j := 1) dX1_forged_30 rfl rfl (by omega) ?_
      refine gl_icmp_ge (tgt := 60) dX1_forged_31 (by decide) (fun _ => ?_) (fun h => absurd ((by rw [hL.q]; exact nI_le (Nat.le_refl _) (by omega))) h)
      refine gl_iload dX1_forged_60 rfl ?_
      refine gl_iload_n dX1_forged_62 rfl ?_
      refine gl_icmp_le (tgt := 70) dX1_forged_63 (by decide) (fun h63 => ?_) (fun h63 => ?_)
      · have z : ¬ (fgS (y.2.2 23) m k).2 < ftN (y.2.2 23) k m := k2_nlt h63
        refine gl_iload_n dX1_forged_70 rfl ?_
        refine gl_istore_n dX1_forged_71 rfl rfl ?_
        refine gl_iload dX1_forged_72 rfl ?_
        refine gl_iload_n dX1_forged_74 rfl ?_
        refine gl_icmp_le (tgt := 83) dX1_forged_75 (by decide) (fun _ => ?_) (fun h => absurd (h63) h)
        refine gl_iload_n dX1_forged_83 rfl ?_
        refine gl_istore_n dX1_forged_84 rfl rfl ?_
        refine gl_iinc (v := (nI (k + 1))) dX1_forged_85 rfl (nI_1 _) rfl rfl ?_
        refine gl_goto (tgt := 7) dX1_forged_88 (by decide) ?_
        refine gl_drop 4 (gl_drop 5 ?_)
        exact cast (by simp only [fgS, if_neg z]; rfl) ih
      · have z : (fgS (y.2.2 23) m k).2 < ftN (y.2.2 23) k m := k2_lt h63
        refine gl_iload_n dX1_forged_66 rfl ?_
        refine gl_goto (tgt := 71) dX1_forged_67 (by decide) ?_
        refine gl_istore_n dX1_forged_71 rfl rfl ?_
        refine gl_iload dX1_forged_72 rfl ?_
        refine gl_iload_n dX1_forged_74 rfl ?_
        refine gl_icmp_le (tgt := 83) dX1_forged_75 (by decide) (fun h => absurd h (h63)) (fun _ => ?_)
        refine gl_iload dX1_forged_78 rfl ?_
        refine gl_goto (tgt := 84) dX1_forged_80 (by decide) ?_
        refine gl_istore_n dX1_forged_84 rfl rfl ?_
        refine gl_iinc (v := (nI (k + 1))) dX1_forged_85 rfl (nI_1 _) rfl rfl ?_
        refine gl_goto (tgt := 7) dX1_forged_88 (by decide) ?_
        refine gl_drop 4 (gl_drop 5 ?_)
        exact cast (by simp only [fgS, if_pos z]; rfl) ih
  · refine gl_iload_n dX1_forged_7 rfl ?_
    refine gl_aload_n dX1_forged_8 rfl ?_
    refine gl_get (k := 4) dX1_forged_9 rfl (rfl : vwCl[1]? = some (RX1, TX1, 21)) in_X1 (by decide) q1024 rfl ?_
    refine gl_iconst (v := nI 0) dX1_forged_12 (by decide) ?_
    refine gl_iald (j := 0) dX1_forged_13 rfl rfl (by omega) ?_
    refine gl_icmp_ge (tgt := 91) dX1_forged_14 (by decide) (fun _ => ?_) (fun h => absurd ((by rw [hL.c]; exact nI_le (Nat.le_refl _) (by omega))) h)
    refine gl_iload_n dX1_forged_91 rfl ?_
    refine gl_bipush (v := (-9)) dX1_forged_92 (by decide) ?_
    refine gl_icmp_ne (tgt := 101) dX1_forged_94 (by decide) (fun h94 => ?_) (fun h94 => ?_)
    · unfold sp_forged
      rw [if_neg h94]
      refine gl_aload_n dX1_forged_101 rfl ?_
      refine gl_iload_n dX1_forged_102 rfl ?_
      refine gl_callV (m_tell L o y _) dX1_forged_103 q1104 q1106 qs45 q75 q1107 rfl hX1_tell rfl (rfl : vwCl[1]? = some (RX1, TX1, 21)) rfl rfl (rmOk (by omega) rfl) ⟨by first | exact Nat.le_refl _ | exact Nat.zero_le _ | decide | (dsimp only [rm]; omega), by first | exact Nat.le_refl _ | exact Nat.zero_le _ | decide | (dsimp only [rm]; omega)⟩ (rt1 ?_)
      refine gl_istore_n dX1_forged_106 rfl rfl ?_
      refine gl_iload_n dX1_forged_107 rfl ?_
      exact gl_iret dX1_forged_108 rfl ⟨rfl, rfl⟩
    · unfold sp_forged
      rw [if_pos h94]
      refine gl_iconst (v := nI 0) dX1_forged_97 (by decide) ?_
      refine gl_goto (tgt := 106) dX1_forged_98 (by decide) ?_
      refine gl_istore_n dX1_forged_106 rfl rfl ?_
      refine gl_iload_n dX1_forged_107 rfl ?_
      exact gl_iret dX1_forged_108 rfl ⟨by rw [h94], rfl⟩
def canB (w : Nat → Int32) (q : Nat) : Nat → Bool
  | 0 => false
  | k + 1 => canB w q k || (fitB w q k && okT w q k)
def sp_never (y : MY) (n m : Nat) : Int32 × MY := (orI (fun q => !canB (y.2.2 23) q n) m, y)
theorem m_never (hL : Lb (y.2.2 23) n m t) : Ct yX1_never gX1_never (L + 13) 0 0 [.ref 18] (mM o y) (RtP o (sp_never y n m)) := by
  refine Ct.of rfl rfl rfl rfl rfl ?_
  have h7 := hL.c7
  have h7q := hL.q7
  refine gl_iconst (v := nI 0) dX1_never_0 (by decide) ?_
  refine gl_istore_n dX1_never_1 rfl rfl ?_
  refine gl_iconst (v := nI 0) dX1_never_2 (by decide) ?_
  refine gl_istore_n dX1_never_3 rfl rfl ?_
  refine gl_loop (fun q => [some (.ref 18), some (.int (orI (fun q => !canB (y.2.2 23) q n) q)), some (.int (nI q)), none, none]) (fun _ => mM o y) m ?_ ?_
  · intro q hq ih
    refine gl_iload_n dX1_never_4 rfl ?_
    refine gl_aload_n dX1_never_5 rfl ?_
    refine gl_get (k := 4) dX1_never_6 rfl (rfl : vwCl[1]? = some (RX1, TX1, 21)) in_X1 (by decide) q1024 rfl ?_
    refine gl_iconst (v := nI 1) dX1_never_9 (by decide) ?_
    refine gl_iald (j := 1) dX1_never_10 rfl rfl (by omega) ?_
    refine gl_icmp_ge (tgt := 108) dX1_never_11 (by decide) (fun h => absurd h ((by rw [hL.q]; exact nI_ge hq (by omega)))) (fun _ => ?_)
    refine gl_iconst (v := nI 0) dX1_never_14 (by decide) ?_
    refine gl_istore_n dX1_never_15 rfl rfl ?_
    refine gl_iconst (v := nI 0) dX1_never_16 (by decide) ?_
    refine gl_istore dX1_never_17 rfl rfl ?_
    refine gl_loop (fun k => [some (.ref 18), some (.int (orI (fun q => !canB (y.2.2 23) q n) q)), some (.int (nI q)), some (.int (bI (canB (y.2.2 23) q k))), some (.int (nI k))]) (fun _ => mM o y) n ?_ ?_
    · intro k hk ih2
      refine gl_iload dX1_never_19 rfl ?_
      refine gl_aload_n dX1_never_21 rfl ?_
      refine gl_get (k := 4) dX1_never_22 rfl (rfl : vwCl[1]? = some (RX1, TX1, 21)) in_X1 (by decide) q1024 rfl ?_
      refine gl_iconst (v := nI 0) dX1_never_25 (by decide) ?_
      refine gl_iald (j := 0) dX1_never_26 rfl rfl (by omega) ?_
      refine gl_icmp_ge (tgt := 88) dX1_never_27 (by decide) (fun h => absurd h ((by rw [hL.c]; exact nI_ge hk (by omega)))) (fun _ => ?_)
      refine gl_iload_n dX1_never_30 rfl ?_
      refine gl_if_ne (tgt := 76) dX1_never_31 (by decide) (fun h31 => ?_) (fun h31 => ?_)
      · refine gl_iconst (v := nI 1) dX1_never_76 (by decide) ?_
        refine gl_goto (tgt := 81) dX1_never_77 (by decide) ?_
        refine gl_istore_n dX1_never_81 rfl rfl ?_
        refine gl_iinc (v := (nI (k + 1))) dX1_never_82 rfl (nI_1 _) rfl rfl ?_
        refine gl_goto (tgt := 19) dX1_never_85 (by decide) ?_
        exact gl_lcs (by clear ih ih2; (try simp only [bI_ne] at *); simp_all [canB, okT, bI] <;> rfl) ih2
      · refine gl_aload_n dX1_never_34 rfl ?_
        refine gl_iload_n dX1_never_35 rfl ?_
        refine gl_iload dX1_never_36 rfl ?_
        refine gl_callV (m_isFit L o y hL (q) (k) (by omega) (by omega)) dX1_never_38 q1207 q1209 qs56 q75 q1210 rfl hX1_isFit rfl (rfl : vwCl[1]? = some (RX1, TX1, 21)) rfl rfl (rmOk (by omega) rfl) ⟨by first | exact Nat.le_refl _ | exact Nat.zero_le _ | decide | (dsimp only [rm]; omega), by first | exact Nat.le_refl _ | exact Nat.zero_le _ | decide | (dsimp only [rm]; omega)⟩ (rt1 ?_)
        refine gl_if_eq (tgt := 80) dX1_never_41 (by decide) (fun h41 => ?_) (fun h41 => ?_)
        · refine gl_iconst (v := nI 0) dX1_never_80 (by decide) ?_
          refine gl_istore_n dX1_never_81 rfl rfl ?_
          refine gl_iinc (v := (nI (k + 1))) dX1_never_82 rfl (nI_1 _) rfl rfl ?_
          refine gl_goto (tgt := 19) dX1_never_85 (by decide) ?_
          exact gl_lcs (by clear ih ih2; (try simp only [bI_ne] at *); simp_all [canB, okT, bI] <;> rfl) ih2
        · refine gl_aload_n dX1_never_44 rfl ?_
          refine gl_get (k := 4) dX1_never_45 rfl (rfl : vwCl[1]? = some (RX1, TX1, 21)) in_X1 (by decide) q1024 rfl ?_
          refine gl_bipush (v := nI 59) dX1_never_48 (by decide) ?_
          refine gl_iload_n dX1_never_50 rfl ?_
          refine gl_iadd dX1_never_51 ?_
          refine gl_iald (j := (59 + q)) dX1_never_52 rfl (by simp only [nI_add, nI_mul]) (by omega) ?_
          refine gl_bipush (v := (-9)) dX1_never_53 (by decide) ?_
          refine gl_icmp_eq (tgt := 76) dX1_never_55 (by decide) (fun h55 => ?_) (fun h55 => ?_)
          · refine gl_iconst (v := nI 1) dX1_never_76 (by decide) ?_
            refine gl_goto (tgt := 81) dX1_never_77 (by decide) ?_
            refine gl_istore_n dX1_never_81 rfl rfl ?_
            refine gl_iinc (v := (nI (k + 1))) dX1_never_82 rfl (nI_1 _) rfl rfl ?_
            refine gl_goto (tgt := 19) dX1_never_85 (by decide) ?_
            exact gl_lcs (by clear ih ih2; (try simp only [bI_ne] at *); simp_all [canB, okT, bI] <;> rfl) ih2
          · refine gl_aload_n dX1_never_58 rfl ?_
            refine gl_get (k := 4) dX1_never_59 rfl (rfl : vwCl[1]? = some (RX1, TX1, 21)) in_X1 (by decide) q1024 rfl ?_
            refine gl_bipush (v := nI 59) dX1_never_62 (by decide) ?_
            refine gl_iload_n dX1_never_64 rfl ?_
            refine gl_iadd dX1_never_65 ?_
            refine gl_iald (j := (59 + q)) dX1_never_66 rfl (by simp only [nI_add, nI_mul]) (by omega) ?_
            refine gl_aload_n dX1_never_67 rfl ?_
            refine gl_iload dX1_never_68 rfl ?_
            refine gl_callV (m_means L o y (k) (by omega) hL.kind) dX1_never_70 q1184 q1186 qs53 q75 q1187 rfl hX1_means rfl (rfl : vwCl[1]? = some (RX1, TX1, 21)) rfl rfl (rmOk (by omega) rfl) ⟨by first | exact Nat.le_refl _ | exact Nat.zero_le _ | decide | (dsimp only [rm]; omega), by first | exact Nat.le_refl _ | exact Nat.zero_le _ | decide | (dsimp only [rm]; omega)⟩ (rt1 ?_)
            refine gl_icmp_ne (tgt := 80) dX1_never_73 (by decide) (fun h73 => ?_) (fun h73 => ?_)
            · refine gl_iconst (v := nI 0) dX1_never_80 (by decide) ?_
              refine gl_istore_n dX1_never_81 rfl rfl ?_
              refine gl_iinc (v := (nI (k + 1))) dX1_never_82 rfl (nI_1 _) rfl rfl ?_
              refine gl_goto (tgt := 19) dX1_never_85 (by decide) ?_
              exact gl_lcs (by clear ih ih2; (try simp only [bI_ne] at *); simp_all [canB, okT, bI] <;> rfl) ih2
            · refine gl_iconst (v := nI 1) dX1_never_76 (by decide) ?_
              refine gl_goto (tgt := 81) dX1_never_77 (by decide) ?_
              refine gl_istore_n dX1_never_81 rfl rfl ?_
              refine gl_iinc (v := (nI (k + 1))) dX1_never_82 rfl (nI_1 _) rfl rfl ?_
              refine gl_goto (tgt := 19) dX1_never_85 (by decide) ?_
              exact gl_lcs (by clear ih ih2; (try simp only [bI_ne] at *); simp_all [canB, okT, bI] <;> rfl) ih2
    · refine gl_iload dX1_never_19 rfl ?_
      refine gl_aload_n dX1_never_21 rfl ?_
      refine gl_get (k := 4) dX1_never_22 rfl (rfl : vwCl[1]? = some (RX1, TX1, 21)) in_X1 (by decide) q1024 rfl ?_
      refine gl_iconst (v := nI 0) dX1_never_25 (by decide) ?_
      refine gl_iald (j := 0) dX1_never_26 rfl rfl (by omega) ?_
      refine gl_icmp_ge (tgt := 88) dX1_never_27 (by decide) (fun _ => ?_) (fun h => absurd ((by rw [hL.c]; exact nI_le (Nat.le_refl _) (by omega))) h)
      refine gl_iload_n dX1_never_88 rfl ?_
      refine gl_iload_n dX1_never_89 rfl ?_
      refine gl_if_eq (tgt := 97) dX1_never_90 (by decide) (fun h90 => ?_) (fun h90 => ?_)
      · refine gl_iconst (v := nI 1) dX1_never_97 (by decide) ?_
        refine gl_iload_n dX1_never_98 rfl ?_
        refine gl_ishl dX1_never_99 ?_
        refine gl_ior dX1_never_100 ?_
        refine gl_istore_n dX1_never_101 rfl rfl ?_
        refine gl_iinc (v := (nI (q + 1))) dX1_never_102 rfl (nI_1 _) rfl rfl ?_
        refine gl_goto (tgt := 4) dX1_never_105 (by decide) ?_
        refine gl_drop 3 (gl_drop 4 ?_)
        exact cast (by simp only [orI, bI_fa h90]; rfl) ih
      · refine gl_iconst (v := nI 0) dX1_never_93 (by decide) ?_
        refine gl_goto (tgt := 100) dX1_never_94 (by decide) ?_
        refine gl_ior dX1_never_100 ?_
        refine gl_istore_n dX1_never_101 rfl rfl ?_
        refine gl_iinc (v := (nI (q + 1))) dX1_never_102 rfl (nI_1 _) rfl rfl ?_
        refine gl_goto (tgt := 4) dX1_never_105 (by decide) ?_
        refine gl_drop 3 (gl_drop 4 ?_)
        exact cast (by simp only [orI, bI_tr h90]; rfl) ih
  · refine gl_iload_n dX1_never_4 rfl ?_
    refine gl_aload_n dX1_never_5 rfl ?_
    refine gl_get (k := 4) dX1_never_6 rfl (rfl : vwCl[1]? = some (RX1, TX1, 21)) in_X1 (by decide) q1024 rfl ?_
    refine gl_iconst (v := nI 1) dX1_never_9 (by decide) ?_
    refine gl_iald (j := 1) dX1_never_10 rfl rfl (by omega) ?_
    refine gl_icmp_ge (tgt := 108) dX1_never_11 (by decide) (fun _ => ?_) (fun h => absurd ((by rw [hL.q]; exact nI_le (Nat.le_refl _) (by omega))) h)
    refine gl_iload_n dX1_never_108 rfl ?_
    exact gl_iret dX1_never_109 rfl ⟨rfl, rfl⟩
def wayI (w : Nat → Int32) (q : Nat) : Int32 := if frQ w q then (if w (59 + q) = -9 then w (45 + q) - w (38 + q) + nI 1 else nI 1) else (if w (59 + q) = -9 then bI (inR (mns w (ix (w (66 + q)))) (w (38 + q)) (w (45 + q))) else stB w q)
def wlN (w : Nat → Int32) : Nat → Int32
  | 0 => nI 1
  | q + 1 => wlN w q * wayI w q
theorem m_worlds (hL : Lb (y.2.2 23) n m t) : Ct yX1_worlds gX1_worlds (L + 13) 0 0 [.ref 18] (mM o y) (RtP o (wlN (y.2.2 23) m, y)) := by
  refine Ct.of rfl rfl rfl rfl rfl ?_
  have h7 := hL.c7
  have h7q := hL.q7
  refine gl_iconst (v := nI 1) dX1_worlds_0 (by decide) ?_
  refine gl_istore_n dX1_worlds_1 rfl rfl ?_
  refine gl_iconst (v := nI 0) dX1_worlds_2 (by decide) ?_
  refine gl_istore_n dX1_worlds_3 rfl rfl ?_
  refine gl_loop (fun q => [some (.ref 18), some (.int (wlN (y.2.2 23) q)), some (.int (nI q)), none, none, none]) (fun _ => mM o y) m ?_ ?_
  · intro q hq ih
    refine gl_iload_n dX1_worlds_4 rfl ?_
    refine gl_aload_n dX1_worlds_5 rfl ?_
    refine gl_get (k := 4) dX1_worlds_6 rfl (rfl : vwCl[1]? = some (RX1, TX1, 21)) in_X1 (by decide) q1024 rfl ?_
    refine gl_iconst (v := nI 1) dX1_worlds_9 (by decide) ?_
    refine gl_iald (j := 1) dX1_worlds_10 rfl rfl (by omega) ?_
    refine gl_icmp_ge (tgt := 137) dX1_worlds_11 (by decide) (fun h => absurd h ((by rw [hL.q]; exact nI_ge hq (by omega)))) (fun _ => ?_)
    refine gl_aload_n dX1_worlds_14 rfl ?_
    refine gl_get (k := 4) dX1_worlds_15 rfl (rfl : vwCl[1]? = some (RX1, TX1, 21)) in_X1 (by decide) q1024 rfl ?_
    refine gl_bipush (v := nI 38) dX1_worlds_18 (by decide) ?_
    refine gl_iload_n dX1_worlds_20 rfl ?_
    refine gl_iadd dX1_worlds_21 ?_
    refine gl_iald (j := (38 + q)) dX1_worlds_22 rfl (by simp only [nI_add, nI_mul]) (by omega) ?_
    refine gl_istore_n dX1_worlds_23 rfl rfl ?_
    refine gl_aload_n dX1_worlds_24 rfl ?_
    refine gl_get (k := 4) dX1_worlds_25 rfl (rfl : vwCl[1]? = some (RX1, TX1, 21)) in_X1 (by decide) q1024 rfl ?_
    refine gl_bipush (v := nI 45) dX1_worlds_28 (by decide) ?_
    refine gl_iload_n dX1_worlds_30 rfl ?_
    refine gl_iadd dX1_worlds_31 ?_
    refine gl_iald (j := (45 + q)) dX1_worlds_32 rfl (by simp only [nI_add, nI_mul]) (by omega) ?_
    refine gl_istore dX1_worlds_33 rfl rfl ?_
    refine gl_aload_n dX1_worlds_35 rfl ?_
    refine gl_get (k := 4) dX1_worlds_36 rfl (rfl : vwCl[1]? = some (RX1, TX1, 21)) in_X1 (by decide) q1024 rfl ?_
    refine gl_bipush (v := nI 59) dX1_worlds_39 (by decide) ?_
    refine gl_iload_n dX1_worlds_41 rfl ?_
    refine gl_iadd dX1_worlds_42 ?_
    refine gl_iald (j := (59 + q)) dX1_worlds_43 rfl (by simp only [nI_add, nI_mul]) (by omega) ?_
    refine gl_bipush (v := (-9)) dX1_worlds_44 (by decide) ?_
    have tl : ∀ k : Bool, k = (y.2.2 23 (59 + q) != -9) → GL gX1_worlds (rm (L + 13) 0 0) (RtP o (wlN (y.2.2 23) m, y)) 0 0 56 [some (.ref 18), some (.int (wlN (y.2.2 23) q)), some (.int (nI q)), some (.int (y.2.2 23 (38 + q))), some (.int (y.2.2 23 (45 + q))), some (.int (bI k))] [] (mM o y) := by
      intro k ek
      refine gl_aload_n dX1_worlds_56 rfl ?_
      refine gl_iload_n dX1_worlds_57 rfl ?_
      refine gl_callV (m_isFree L o y (q) (by omega)) dX1_worlds_58 q1240 q1242 qs59 q75 q1243 rfl hX1_isFree rfl (rfl : vwCl[1]? = some (RX1, TX1, 21)) rfl rfl (rmOk (by omega) rfl) ⟨by first | exact Nat.le_refl _ | exact Nat.zero_le _ | decide | (dsimp only [rm]; omega), by first | exact Nat.le_refl _ | exact Nat.zero_le _ | decide | (dsimp only [rm]; omega)⟩ (rt1 ?_)
      refine gl_if_eq (tgt := 85) dX1_worlds_61 (by decide) (fun h61 => ?_) (fun h61 => ?_)
      · have hf := bI_fa h61
        obtain ⟨c, hc, e⟩ := Lb.card y hL hq hf
        refine gl_iload_n dX1_worlds_85 rfl ?_
        refine gl_iload dX1_worlds_86 rfl ?_
        refine gl_if_eq (tgt := 99) dX1_worlds_88 (by decide) (fun h88 => ?_) (fun h88 => ?_)
        · refine gl_aload_n dX1_worlds_99 rfl ?_
          refine gl_aload_n dX1_worlds_100 rfl ?_
          refine gl_get (k := 4) dX1_worlds_101 rfl (rfl : vwCl[1]? = some (RX1, TX1, 21)) in_X1 (by decide) q1024 rfl ?_
          refine gl_bipush (v := nI 66) dX1_worlds_104 (by decide) ?_
          refine gl_iload_n dX1_worlds_106 rfl ?_
          refine gl_iadd dX1_worlds_107 ?_
          refine gl_iald (j := (66 + q)) dX1_worlds_108 rfl (by simp only [nI_add, nI_mul]) (by omega) ?_
          rw [e]
          refine gl_callV (m_means L o y c (by omega) hL.kind) dX1_worlds_109 q1184 q1186 qs53 q75 q1187 rfl hX1_means rfl (rfl : vwCl[1]? = some (RX1, TX1, 21)) rfl rfl (rmOk (by omega) rfl) ⟨by first | exact Nat.le_refl _ | exact Nat.zero_le _ | decide | (dsimp only [rm]; omega), by first | exact Nat.le_refl _ | exact Nat.zero_le _ | decide | (dsimp only [rm]; omega)⟩ (rt1 ?_)
          refine gl_i2l dX1_worlds_112 ?_
          refine gl_iload_n dX1_worlds_113 rfl ?_
          refine gl_i2l dX1_worlds_114 ?_
          refine gl_iload dX1_worlds_115 rfl ?_
          refine gl_i2l dX1_worlds_117 ?_
          refine gl_callS (m_in_i L _ _ _ _ rfl rfl) dX1_worlds_118 q1093 q1094 q75 q1095 rfl hX1_in rfl rfl (rmOk (by omega) rfl) ⟨by first | exact Nat.le_refl _ | exact Nat.zero_le _ | decide | (dsimp only [rm]; omega), by first | exact Nat.le_refl _ | exact Nat.zero_le _ | decide | (dsimp only [rm]; omega)⟩ (rt1 ?_)
          refine gl_if_eq (tgt := 128) dX1_worlds_121 (by decide) (fun h121 => ?_) (fun h121 => ?_)
          · refine gl_iconst (v := nI 0) dX1_worlds_128 (by decide) ?_
            refine gl_imul dX1_worlds_129 ?_
            refine gl_istore_n dX1_worlds_130 rfl rfl ?_
            refine gl_iinc (v := (nI (q + 1))) dX1_worlds_131 rfl (nI_1 _) rfl rfl ?_
            refine gl_goto (tgt := 4) dX1_worlds_134 (by decide) ?_
            refine gl_drop 3 (gl_drop 4 (gl_drop 5 (gl_lcs ?_ ih))); have e3 := ix_nI (show c < 100 by omega); clear ih; (try simp only [bI_ne] at *); simp_all [wlN, wayI, bI] <;> rfl
          · refine gl_iconst (v := nI 1) dX1_worlds_124 (by decide) ?_
            refine gl_goto (tgt := 129) dX1_worlds_125 (by decide) ?_
            refine gl_imul dX1_worlds_129 ?_
            refine gl_istore_n dX1_worlds_130 rfl rfl ?_
            refine gl_iinc (v := (nI (q + 1))) dX1_worlds_131 rfl (nI_1 _) rfl rfl ?_
            refine gl_goto (tgt := 4) dX1_worlds_134 (by decide) ?_
            refine gl_drop 3 (gl_drop 4 (gl_drop 5 (gl_lcs ?_ ih))); have e3 := ix_nI (show c < 100 by omega); clear ih; (try simp only [bI_ne] at *); simp_all [wlN, wayI, bI] <;> rfl
        · refine gl_aload_n dX1_worlds_91 rfl ?_
          refine gl_iload_n dX1_worlds_92 rfl ?_
          refine gl_callV (m_stands L o y hL.kind q c (by omega) (by omega) e) dX1_worlds_93 q1252 q1254 qs62 q75 q1255 rfl hX1_stands rfl (rfl : vwCl[1]? = some (RX1, TX1, 21)) rfl rfl (rmOk (by omega) rfl) ⟨by first | exact Nat.le_refl _ | exact Nat.zero_le _ | decide | (dsimp only [rm]; omega), by first | exact Nat.le_refl _ | exact Nat.zero_le _ | decide | (dsimp only [rm]; omega)⟩ (rt1 ?_)
          refine gl_goto (tgt := 129) dX1_worlds_96 (by decide) ?_
          refine gl_imul dX1_worlds_129 ?_
          refine gl_istore_n dX1_worlds_130 rfl rfl ?_
          refine gl_iinc (v := (nI (q + 1))) dX1_worlds_131 rfl (nI_1 _) rfl rfl ?_
          refine gl_goto (tgt := 4) dX1_worlds_134 (by decide) ?_
          refine gl_drop 3 (gl_drop 4 (gl_drop 5 (gl_lcs ?_ ih)))
          clear ih
          (try simp only [bI_ne] at *); simp_all [wlN, wayI, bI] <;> rfl
      · refine gl_iload_n dX1_worlds_64 rfl ?_
        refine gl_iload dX1_worlds_65 rfl ?_
        refine gl_if_eq (tgt := 74) dX1_worlds_67 (by decide) (fun h67 => ?_) (fun h67 => ?_)
        · refine gl_iload dX1_worlds_74 rfl ?_
          refine gl_iload_n dX1_worlds_76 rfl ?_
          refine gl_isub dX1_worlds_77 ?_
          refine gl_iconst (v := nI 1) dX1_worlds_78 (by decide) ?_
          refine gl_iadd dX1_worlds_79 ?_
          refine gl_imul dX1_worlds_80 ?_
          refine gl_istore_n dX1_worlds_81 rfl rfl ?_
          refine gl_goto (tgt := 131) dX1_worlds_82 (by decide) ?_
          refine gl_iinc (v := (nI (q + 1))) dX1_worlds_131 rfl (nI_1 _) rfl rfl ?_
          refine gl_goto (tgt := 4) dX1_worlds_134 (by decide) ?_
          refine gl_drop 3 (gl_drop 4 (gl_drop 5 (gl_lcs ?_ ih))); clear ih; (try simp only [bI_ne] at *); simp_all [wlN, wayI, bI] <;> rfl
        · refine gl_iconst (v := nI 1) dX1_worlds_70 (by decide) ?_
          refine gl_goto (tgt := 80) dX1_worlds_71 (by decide) ?_
          refine gl_imul dX1_worlds_80 ?_
          refine gl_istore_n dX1_worlds_81 rfl rfl ?_
          refine gl_goto (tgt := 131) dX1_worlds_82 (by decide) ?_
          refine gl_iinc (v := (nI (q + 1))) dX1_worlds_131 rfl (nI_1 _) rfl rfl ?_
          refine gl_goto (tgt := 4) dX1_worlds_134 (by decide) ?_
          refine gl_drop 3 (gl_drop 4 (gl_drop 5 (gl_lcs ?_ ih))); clear ih; (try simp only [bI_ne] at *); simp_all [wlN, wayI, bI] <;> rfl
    refine gl_icmp_eq (tgt := 53) dX1_worlds_46 (by decide) (fun h46 => ?_) (fun h46 => ?_)
    · refine gl_iconst (v := nI 0) dX1_worlds_53 (by decide) ?_
      refine gl_istore dX1_worlds_54 rfl rfl ?_
      exact tl false (by simp [h46])
    · refine gl_iconst (v := nI 1) dX1_worlds_49 (by decide) ?_
      refine gl_goto (tgt := 54) dX1_worlds_50 (by decide) ?_
      refine gl_istore dX1_worlds_54 rfl rfl ?_
      exact tl true (by simp [h46])
  · refine gl_iload_n dX1_worlds_4 rfl ?_
    refine gl_aload_n dX1_worlds_5 rfl ?_
    refine gl_get (k := 4) dX1_worlds_6 rfl (rfl : vwCl[1]? = some (RX1, TX1, 21)) in_X1 (by decide) q1024 rfl ?_
    refine gl_iconst (v := nI 1) dX1_worlds_9 (by decide) ?_
    refine gl_iald (j := 1) dX1_worlds_10 rfl rfl (by omega) ?_
    refine gl_icmp_ge (tgt := 137) dX1_worlds_11 (by decide) (fun _ => ?_) (fun h => absurd ((by rw [hL.q]; exact nI_le (Nat.le_refl _) (by omega))) h)
    refine gl_iload_n dX1_worlds_137 rfl ?_
    exact gl_iret dX1_worlds_138 rfl ⟨rfl, rfl⟩
end MK

