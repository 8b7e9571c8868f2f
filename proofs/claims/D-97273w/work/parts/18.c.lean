/-! the model's readers of a library -/
set_option maxRecDepth 100000
def cntI (p : Nat → Bool) : Nat → Int32
  | 0 => nI 0
  | k + 1 => cntI p k + bI (p k)
def orI (p : Nat → Bool) : Nat → Int32
  | 0 => nI 0
  | k + 1 => orI p k ||| (if p k then nI 1 <<< (nI k &&& 31) else nI 0)
section ML
variable (L : Nat) (o : OY) (y : MY) {n m t : Nat}
theorem m_suits (hL : Lb (y.2.2 23) n m t) (c : Nat) (hc : c < 7) (k f g : Int32) : Ct yX1_suits gX1_suits (L + 11) 0 0 [.ref 18, .int (nI c), .int k, .int f, .int g] (mM o y) (Rt (some (.int (bI (suB (y.2.2 23) c k f g)))) (mM o y)) := by
  refine Ct.of rfl rfl rfl rfl rfl ?_
  refine gl_aload_n dX1_suits_0 rfl ?_
  refine gl_get (k := 4) dX1_suits_1 rfl (rfl : vwCl[1]? = some (RX1, TX1, 21)) in_X1 (by decide) q1024 rfl ?_
  refine gl_iconst (v := nI 3) dX1_suits_4 (by decide) ?_
  refine gl_iload_n dX1_suits_5 rfl ?_
  refine gl_iadd dX1_suits_6 ?_
  refine gl_iald (j := (3 + c)) dX1_suits_7 rfl (by simp only [nI_add, nI_mul]) (by omega) ?_
  refine gl_iload_n dX1_suits_8 rfl ?_
  refine gl_callS (m_isOf L (mM o y) _ _) dX1_suits_9 q1204 q1205 q75 q1206 rfl hX1_isOf rfl rfl (rmOk (by omega) rfl) ⟨by first | exact Nat.le_refl _ | exact Nat.zero_le _ | decide | (dsimp only [rm]; omega), by first | exact Nat.le_refl _ | exact Nat.zero_le _ | decide | (dsimp only [rm]; omega)⟩ (rt1 ?_)
  refine gl_if_eq (tgt := 36) dX1_suits_12 (by decide) (fun h12 => ?_) (fun h12 => ?_)
  · refine gl_iconst (v := nI 0) dX1_suits_36 (by decide) ?_
    exact gl_zret dX1_suits_37 rfl (by decide) ⟨by simp_all [suB, bI, nI], rfl⟩
  · refine gl_aload_n dX1_suits_15 rfl ?_
    refine gl_iload_n dX1_suits_16 rfl ?_
    refine gl_callV (m_means L o y (c) (by omega) hL.kind) dX1_suits_17 q1184 q1186 qs53 q75 q1187 rfl hX1_means rfl (rfl : vwCl[1]? = some (RX1, TX1, 21)) rfl rfl (rmOk (by omega) rfl) ⟨by first | exact Nat.le_refl _ | exact Nat.zero_le _ | decide | (dsimp only [rm]; omega), by first | exact Nat.le_refl _ | exact Nat.zero_le _ | decide | (dsimp only [rm]; omega)⟩ (rt1 ?_)
    refine gl_i2l dX1_suits_20 ?_
    refine gl_iload_n dX1_suits_21 rfl ?_
    refine gl_i2l dX1_suits_22 ?_
    refine gl_iload dX1_suits_23 rfl ?_
    refine gl_i2l dX1_suits_25 ?_
    refine gl_callS (m_in_i L (mM o y) _ f g rfl rfl) dX1_suits_26 q1093 q1094 q75 q1095 rfl hX1_in rfl rfl (rmOk (by omega) rfl) ⟨by first | exact Nat.le_refl _ | exact Nat.zero_le _ | decide | (dsimp only [rm]; omega), by first | exact Nat.le_refl _ | exact Nat.zero_le _ | decide | (dsimp only [rm]; omega)⟩ (rt1 ?_)
    refine gl_if_eq (tgt := 36) dX1_suits_29 (by decide) (fun h29 => ?_) (fun h29 => ?_)
    · refine gl_iconst (v := nI 0) dX1_suits_36 (by decide) ?_
      exact gl_zret dX1_suits_37 rfl (by decide) ⟨by simp_all [suB, bI, nI], rfl⟩
    · refine gl_iconst (v := nI 1) dX1_suits_32 (by decide) ?_
      refine gl_goto (tgt := 37) dX1_suits_33 (by decide) ?_
      exact gl_zret dX1_suits_37 rfl (by decide) ⟨by simp_all [suB, bI, nI], rfl⟩
theorem m_isFit (hL : Lb (y.2.2 23) n m t) (q c : Nat) (hq : q < 7) (hc : c < 7) : Ct yX1_isFit gX1_isFit (L + 12) 0 0 [.ref 18, .int (nI q), .int (nI c)] (mM o y) (Rt (some (.int (bI (fitB (y.2.2 23) q c)))) (mM o y)) := by
  refine Ct.of rfl rfl rfl rfl rfl ?_
  refine gl_aload_n dX1_isFit_0 rfl ?_
  refine gl_iload_n dX1_isFit_1 rfl ?_
  refine gl_aload_n dX1_isFit_2 rfl ?_
  refine gl_get (k := 4) dX1_isFit_3 rfl (rfl : vwCl[1]? = some (RX1, TX1, 21)) in_X1 (by decide) q1024 rfl ?_
  refine gl_bipush (v := nI 31) dX1_isFit_6 (by decide) ?_
  refine gl_iload_n dX1_isFit_8 rfl ?_
  refine gl_iadd dX1_isFit_9 ?_
  refine gl_iald (j := (31 + q)) dX1_isFit_10 rfl (by simp only [nI_add, nI_mul]) (by omega) ?_
  refine gl_aload_n dX1_isFit_11 rfl ?_
  refine gl_get (k := 4) dX1_isFit_12 rfl (rfl : vwCl[1]? = some (RX1, TX1, 21)) in_X1 (by decide) q1024 rfl ?_
  refine gl_bipush (v := nI 38) dX1_isFit_15 (by decide) ?_
  refine gl_iload_n dX1_isFit_17 rfl ?_
  refine gl_iadd dX1_isFit_18 ?_
  refine gl_iald (j := (38 + q)) dX1_isFit_19 rfl (by simp only [nI_add, nI_mul]) (by omega) ?_
  refine gl_aload_n dX1_isFit_20 rfl ?_
  refine gl_get (k := 4) dX1_isFit_21 rfl (rfl : vwCl[1]? = some (RX1, TX1, 21)) in_X1 (by decide) q1024 rfl ?_
  refine gl_bipush (v := nI 45) dX1_isFit_24 (by decide) ?_
  refine gl_iload_n dX1_isFit_26 rfl ?_
  refine gl_iadd dX1_isFit_27 ?_
  refine gl_iald (j := (45 + q)) dX1_isFit_28 rfl (by simp only [nI_add, nI_mul]) (by omega) ?_
  refine gl_callV (m_suits L o y hL (c) (by omega) _ _ _) dX1_isFit_29 q1211 q1213 qs57 q75 q1214 rfl hX1_suits rfl (rfl : vwCl[1]? = some (RX1, TX1, 21)) rfl rfl (rmOk (by omega) rfl) ⟨by first | exact Nat.le_refl _ | exact Nat.zero_le _ | decide | (dsimp only [rm]; omega), by first | exact Nat.le_refl _ | exact Nat.zero_le _ | decide | (dsimp only [rm]; omega)⟩ (rt1 ?_)
  exact gl_zret dX1_isFit_32 rfl (bI_1 _) ⟨rfl, rfl⟩
def toldC (w : Nat → Int32) (m c : Nat) (what : Int32) : Int32 := if what = 0 then w (3 + c) else if what = 1 then w (10 + c) else if what = 2 then mns w c else if what = 3 then w (17 + c) else if what = 4 then w (24 + c) else ansL w (nI c) m
theorem m_toldCard (hL : Lb (y.2.2 23) n m t) (c : Nat) (what : Int32) (hc : c < 7) : Ct yX1_toldCard gX1_toldCard (L + 11) 0 0 [.ref 18, .int (nI c), .int what] (mM o y) (Rt (some (.int (toldC (y.2.2 23) m c what))) (mM o y)) := by
  refine Ct.of rfl rfl rfl rfl rfl ?_
  refine gl_iload_n dX1_toldCard_0 rfl ?_
  refine gl_if_ne (tgt := 15) dX1_toldCard_1 (by decide) (fun h1 => ?_) (fun h1 => ?_)
  · refine gl_iload_n dX1_toldCard_15 rfl ?_
    refine gl_iconst (v := nI 1) dX1_toldCard_16 (by decide) ?_
    refine gl_icmp_ne (tgt := 32) dX1_toldCard_17 (by decide) (fun h17 => ?_) (fun h17 => ?_)
    · refine gl_iload_n dX1_toldCard_32 rfl ?_
      refine gl_iconst (v := nI 2) dX1_toldCard_33 (by decide) ?_
      refine gl_icmp_ne (tgt := 45) dX1_toldCard_34 (by decide) (fun h34 => ?_) (fun h34 => ?_)
      · refine gl_iload_n dX1_toldCard_45 rfl ?_
        refine gl_iconst (v := nI 3) dX1_toldCard_46 (by decide) ?_
        refine gl_icmp_ne (tgt := 62) dX1_toldCard_47 (by decide) (fun h47 => ?_) (fun h47 => ?_)
        · refine gl_iload_n dX1_toldCard_62 rfl ?_
          refine gl_iconst (v := nI 4) dX1_toldCard_63 (by decide) ?_
          refine gl_icmp_ne (tgt := 79) dX1_toldCard_64 (by decide) (fun h64 => ?_) (fun h64 => ?_)
          · refine gl_aload_n dX1_toldCard_79 rfl ?_
            refine gl_iload_n dX1_toldCard_80 rfl ?_
            refine gl_callV (m_answers L o y m _ hL.q hL.q7) dX1_toldCard_81 q1188 q1190 qs54 q75 q1191 rfl hX1_answers rfl (rfl : vwCl[1]? = some (RX1, TX1, 21)) rfl rfl (rmOk (by omega) rfl) ⟨by first | exact Nat.le_refl _ | exact Nat.zero_le _ | decide | (dsimp only [rm]; omega), by first | exact Nat.le_refl _ | exact Nat.zero_le _ | decide | (dsimp only [rm]; omega)⟩ (rt1 ?_)
            exact gl_iret dX1_toldCard_84 rfl ⟨by simp_all [toldC, nI], rfl⟩
          · refine gl_aload_n dX1_toldCard_67 rfl ?_
            refine gl_get (k := 4) dX1_toldCard_68 rfl (rfl : vwCl[1]? = some (RX1, TX1, 21)) in_X1 (by decide) q1024 rfl ?_
            refine gl_bipush (v := nI 24) dX1_toldCard_71 (by decide) ?_
            refine gl_iload_n dX1_toldCard_73 rfl ?_
            refine gl_iadd dX1_toldCard_74 ?_
            refine gl_iald (j := (24 + c)) dX1_toldCard_75 rfl (by simp only [nI_add, nI_mul]) (by omega) ?_
            refine gl_goto (tgt := 84) dX1_toldCard_76 (by decide) ?_
            exact gl_iret dX1_toldCard_84 rfl ⟨by simp_all [toldC, nI], rfl⟩
        · refine gl_aload_n dX1_toldCard_50 rfl ?_
          refine gl_get (k := 4) dX1_toldCard_51 rfl (rfl : vwCl[1]? = some (RX1, TX1, 21)) in_X1 (by decide) q1024 rfl ?_
          refine gl_bipush (v := nI 17) dX1_toldCard_54 (by decide) ?_
          refine gl_iload_n dX1_toldCard_56 rfl ?_
          refine gl_iadd dX1_toldCard_57 ?_
          refine gl_iald (j := (17 + c)) dX1_toldCard_58 rfl (by simp only [nI_add, nI_mul]) (by omega) ?_
          refine gl_goto (tgt := 84) dX1_toldCard_59 (by decide) ?_
          exact gl_iret dX1_toldCard_84 rfl ⟨by simp_all [toldC, nI], rfl⟩
      · refine gl_aload_n dX1_toldCard_37 rfl ?_
        refine gl_iload_n dX1_toldCard_38 rfl ?_
        refine gl_callV (m_means L o y (c) (by omega) hL.kind) dX1_toldCard_39 q1184 q1186 qs53 q75 q1187 rfl hX1_means rfl (rfl : vwCl[1]? = some (RX1, TX1, 21)) rfl rfl (rmOk (by omega) rfl) ⟨by first | exact Nat.le_refl _ | exact Nat.zero_le _ | decide | (dsimp only [rm]; omega), by first | exact Nat.le_refl _ | exact Nat.zero_le _ | decide | (dsimp only [rm]; omega)⟩ (rt1 ?_)
        refine gl_goto (tgt := 84) dX1_toldCard_42 (by decide) ?_
        exact gl_iret dX1_toldCard_84 rfl ⟨by simp_all [toldC, nI], rfl⟩
    · refine gl_aload_n dX1_toldCard_20 rfl ?_
      refine gl_get (k := 4) dX1_toldCard_21 rfl (rfl : vwCl[1]? = some (RX1, TX1, 21)) in_X1 (by decide) q1024 rfl ?_
      refine gl_bipush (v := nI 10) dX1_toldCard_24 (by decide) ?_
      refine gl_iload_n dX1_toldCard_26 rfl ?_
      refine gl_iadd dX1_toldCard_27 ?_
      refine gl_iald (j := (10 + c)) dX1_toldCard_28 rfl (by simp only [nI_add, nI_mul]) (by omega) ?_
      refine gl_goto (tgt := 84) dX1_toldCard_29 (by decide) ?_
      exact gl_iret dX1_toldCard_84 rfl ⟨by simp_all [toldC, nI], rfl⟩
  · refine gl_aload_n dX1_toldCard_4 rfl ?_
    refine gl_get (k := 4) dX1_toldCard_5 rfl (rfl : vwCl[1]? = some (RX1, TX1, 21)) in_X1 (by decide) q1024 rfl ?_
    refine gl_iconst (v := nI 3) dX1_toldCard_8 (by decide) ?_
    refine gl_iload_n dX1_toldCard_9 rfl ?_
    refine gl_iadd dX1_toldCard_10 ?_
    refine gl_iald (j := (3 + c)) dX1_toldCard_11 rfl (by simp only [nI_add, nI_mul]) (by omega) ?_
    refine gl_goto (tgt := 84) dX1_toldCard_12 (by decide) ?_
    exact gl_iret dX1_toldCard_84 rfl ⟨by simp_all [toldC, nI], rfl⟩
def frC (w : Nat → Int32) (m c : Nat) : Bool := ansL w (nI c) m == -9
def frQ (w : Nat → Int32) (q : Nat) : Bool := w (66 + q) == -9
theorem m_isFreeCard (hL : Lb (y.2.2 23) n m t) (c : Nat) : Ct yX1_isFreeCard gX1_isFreeCard (L + 11) 0 0 [.ref 18, .int (nI c)] (mM o y) (Rt (some (.int (bI (frC (y.2.2 23) m c)))) (mM o y)) := by
  refine Ct.of rfl rfl rfl rfl rfl ?_
  refine gl_aload_n dX1_isFreeCard_0 rfl ?_
  refine gl_iload_n dX1_isFreeCard_1 rfl ?_
  refine gl_callV (m_answers L o y m _ hL.q hL.q7) dX1_isFreeCard_2 q1188 q1190 qs54 q75 q1191 rfl hX1_answers rfl (rfl : vwCl[1]? = some (RX1, TX1, 21)) rfl rfl (rmOk (by omega) rfl) ⟨by first | exact Nat.le_refl _ | exact Nat.zero_le _ | decide | (dsimp only [rm]; omega), by first | exact Nat.le_refl _ | exact Nat.zero_le _ | decide | (dsimp only [rm]; omega)⟩ (rt1 ?_)
  refine gl_bipush (v := (-9)) dX1_isFreeCard_5 (by decide) ?_
  refine gl_icmp_ne (tgt := 14) dX1_isFreeCard_7 (by decide) (fun h7 => ?_) (fun h7 => ?_)
  · refine gl_iconst (v := nI 0) dX1_isFreeCard_14 (by decide) ?_
    exact gl_zret dX1_isFreeCard_15 rfl (by decide) ⟨by simp_all [frC, bI, nI], rfl⟩
  · refine gl_iconst (v := nI 1) dX1_isFreeCard_10 (by decide) ?_
    refine gl_goto (tgt := 15) dX1_isFreeCard_11 (by decide) ?_
    exact gl_zret dX1_isFreeCard_15 rfl (by decide) ⟨by simp_all [frC, bI, nI], rfl⟩
theorem m_isFree (q : Nat) (hq : q < 7) : Ct yX1_isFree gX1_isFree (L + 10) 0 0 [.ref 18, .int (nI q)] (mM o y) (Rt (some (.int (bI (frQ (y.2.2 23) q)))) (mM o y)) := by
  refine Ct.of rfl rfl rfl rfl rfl ?_
  refine gl_aload_n dX1_isFree_0 rfl ?_
  refine gl_get (k := 4) dX1_isFree_1 rfl (rfl : vwCl[1]? = some (RX1, TX1, 21)) in_X1 (by decide) q1024 rfl ?_
  refine gl_bipush (v := nI 66) dX1_isFree_4 (by decide) ?_
  refine gl_iload_n dX1_isFree_6 rfl ?_
  refine gl_iadd dX1_isFree_7 ?_
  refine gl_iald (j := (66 + q)) dX1_isFree_8 rfl (by simp only [nI_add, nI_mul]) (by omega) ?_
  refine gl_bipush (v := (-9)) dX1_isFree_9 (by decide) ?_
  refine gl_icmp_ne (tgt := 18) dX1_isFree_11 (by decide) (fun h11 => ?_) (fun h11 => ?_)
  · refine gl_iconst (v := nI 0) dX1_isFree_18 (by decide) ?_
    exact gl_zret dX1_isFree_19 rfl (by decide) ⟨by simp_all [frQ, bI, nI], rfl⟩
  · refine gl_iconst (v := nI 1) dX1_isFree_14 (by decide) ?_
    refine gl_goto (tgt := 19) dX1_isFree_15 (by decide) ?_
    exact gl_zret dX1_isFree_19 rfl (by decide) ⟨by simp_all [frQ, bI, nI], rfl⟩
/-- a card's index out of a value -/
def ix (v : Int32) : Nat := v.toNatClampNeg
theorem ix_nI {c : Nat} (h : c < 100) : ix (nI c) = c := nI_clamp (by omega)
def stB (w : Nat → Int32) (q : Nat) : Int32 := if w (59 + q) = -9 then nI 2 else if mns w (ix (w (66 + q))) = w (59 + q) then nI 1 else nI 0
theorem m_stands (hK : rg (y.2.2 23) 3 5) (q c : Nat) (hq : q < 7) (hc : c < 7) (e : y.2.2 23 (66 + q) = nI c) : Ct yX1_stands gX1_stands (L + 11) 0 0 [.ref 18, .int (nI q)] (mM o y) (Rt (some (.int (stB (y.2.2 23) q))) (mM o y)) := by
  refine Ct.of rfl rfl rfl rfl rfl ?_
  have e2 : ix (y.2.2 23 (66 + q)) = c := by rw [e]; exact ix_nI (by omega)
  refine gl_aload_n dX1_stands_0 rfl ?_
  refine gl_get (k := 4) dX1_stands_1 rfl (rfl : vwCl[1]? = some (RX1, TX1, 21)) in_X1 (by decide) q1024 rfl ?_
  refine gl_bipush (v := nI 59) dX1_stands_4 (by decide) ?_
  refine gl_iload_n dX1_stands_6 rfl ?_
  refine gl_iadd dX1_stands_7 ?_
  refine gl_iald (j := (59 + q)) dX1_stands_8 rfl (by simp only [nI_add, nI_mul]) (by omega) ?_
  refine gl_bipush (v := (-9)) dX1_stands_9 (by decide) ?_
  refine gl_icmp_ne (tgt := 18) dX1_stands_11 (by decide) (fun h11 => ?_) (fun h11 => ?_)
  · refine gl_aload_n dX1_stands_18 rfl ?_
    refine gl_aload_n dX1_stands_19 rfl ?_
    refine gl_get (k := 4) dX1_stands_20 rfl (rfl : vwCl[1]? = some (RX1, TX1, 21)) in_X1 (by decide) q1024 rfl ?_
    refine gl_bipush (v := nI 66) dX1_stands_23 (by decide) ?_
    refine gl_iload_n dX1_stands_25 rfl ?_
    refine gl_iadd dX1_stands_26 ?_
    refine gl_iald (j := (66 + q)) dX1_stands_27 rfl (by simp only [nI_add, nI_mul]) (by omega) ?_
    rw [e]
    refine gl_callV (m_means L o y c hc hK) dX1_stands_28 q1184 q1186 qs53 q75 q1187 rfl hX1_means rfl (rfl : vwCl[1]? = some (RX1, TX1, 21)) rfl rfl (rmOk (by omega) rfl) ⟨by first | exact Nat.le_refl _ | exact Nat.zero_le _ | decide | (dsimp only [rm]; omega), by first | exact Nat.le_refl _ | exact Nat.zero_le _ | decide | (dsimp only [rm]; omega)⟩ (rt1 ?_)
    refine gl_aload_n dX1_stands_31 rfl ?_
    refine gl_get (k := 4) dX1_stands_32 rfl (rfl : vwCl[1]? = some (RX1, TX1, 21)) in_X1 (by decide) q1024 rfl ?_
    refine gl_bipush (v := nI 59) dX1_stands_35 (by decide) ?_
    refine gl_iload_n dX1_stands_37 rfl ?_
    refine gl_iadd dX1_stands_38 ?_
    refine gl_iald (j := (59 + q)) dX1_stands_39 rfl (by simp only [nI_add, nI_mul]) (by omega) ?_
    refine gl_icmp_ne (tgt := 47) dX1_stands_40 (by decide) (fun h40 => ?_) (fun h40 => ?_)
    · refine gl_iconst (v := nI 0) dX1_stands_47 (by decide) ?_
      exact gl_iret dX1_stands_48 rfl ⟨by simp_all [stB], rfl⟩
    · refine gl_iconst (v := nI 1) dX1_stands_43 (by decide) ?_
      refine gl_goto (tgt := 48) dX1_stands_44 (by decide) ?_
      exact gl_iret dX1_stands_48 rfl ⟨by simp_all [stB], rfl⟩
  · refine gl_iconst (v := nI 2) dX1_stands_14 (by decide) ?_
    refine gl_goto (tgt := 48) dX1_stands_15 (by decide) ?_
    exact gl_iret dX1_stands_48 rfl ⟨by simp_all [stB], rfl⟩
theorem m_puts (p : Nat) (v : Int32) (hp : p < 393) : Ct yX1_puts gX1_puts (L + 10) 0 0 [.ref 18, .int (nI p), .int v] (mM o y) (Rt (some (.int (y.2.2 23 p))) (mM o (sA y 23 (upd (y.2.2 23) p v)))) := by
  refine Ct.of rfl rfl rfl rfl rfl ?_
  refine gl_aload_n dX1_puts_0 rfl ?_
  refine gl_get (k := 4) dX1_puts_1 rfl (rfl : vwCl[1]? = some (RX1, TX1, 21)) in_X1 (by decide) q1024 rfl ?_
  refine gl_iload_n dX1_puts_4 rfl ?_
  refine gl_iald (j := p) dX1_puts_5 rfl rfl (by omega) ?_
  refine gl_istore_n dX1_puts_6 rfl rfl ?_
  refine gl_aload_n dX1_puts_7 rfl ?_
  refine gl_get (k := 4) dX1_puts_8 rfl (rfl : vwCl[1]? = some (RX1, TX1, 21)) in_X1 (by decide) q1024 rfl ?_
  refine gl_iload_n dX1_puts_11 rfl ?_
  refine gl_iload_n dX1_puts_12 rfl ?_
  refine gl_iast (j := p) dX1_puts_13 rfl rfl (by omega) ?_
  refine gl_iload_n dX1_puts_14 rfl ?_
  exact gl_iret dX1_puts_15 rfl ⟨rfl, rfl⟩
end ML

