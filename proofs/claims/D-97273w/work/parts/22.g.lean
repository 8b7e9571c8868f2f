/-! the model reads texts -/
set_option maxRecDepth 100000
abbrev PS : Type := Nat × (Nat → Int32)
def bt (g : Nat → Int32) (s p : Nat) : Int32 := if p < s then g p else -1000
def knd (c : Int32) : Int32 := if c = 110 then nI 0 else if c = 121 then nI 1 else if c = 112 then nI 2 else if c = 118 then nI 3 else if c = 116 then nI 4 else if c = 98 then nI 5 else -1
def tk (g : Nat → Int32) (s : Nat) (u : PS) (a : Nat) (lo hi : Int32) : Bool × PS := if inR (bt g s u.1 - nI 48) lo hi then (true, u.1 + 1, upd u.2 a (bt g s u.1 - nI 48)) else (false, u)
def thn (r : Bool × PS) (f : PS → Bool × PS) : Bool × PS := if r.1 then f r.2 else r
def tc (g : Nat → Int32) (s : Nat) (u : PS) : Bool × PS := if knd (bt g s u.1) < 0 ∨ u.2 0 = nI 7 ∨ 0 < u.2 1 then (false, u) else thn (thn (tk g s (u.1 + 1, upd (upd u.2 (3 + ix (u.2 0)) (knd (bt g s u.1))) 0 (u.2 0 + nI 1)) (10 + ix (u.2 0)) (nI 0) (nI 9)) (fun v => tk g s v (17 + ix (u.2 0)) (nI 0) (nI 3))) (fun v => tk g s v (24 + ix (u.2 0)) (nI 0) (nI 9))
def tq (g : Nat → Int32) (s : Nat) (u : PS) : Bool × PS := if u.2 0 = 0 ∨ u.2 1 = nI 7 then (false, u) else thn (thn (thn (tk g s (u.1 + 1, upd u.2 1 (u.2 1 + nI 1)) (31 + ix (u.2 1)) (nI 0) (nI 5)) (fun v => tk g s v (38 + ix (u.2 1)) (nI 0) (nI 9))) (fun v => tk g s v (45 + ix (u.2 1)) (v.2 (38 + ix (u.2 1))) (nI 9))) (fun v => tk g s v (52 + ix (u.2 1)) (nI 1) (nI 9))
def rdS (y : MY) (u : PS) : MY := sI (sA y 27 u.2) 13 (nI u.1)
def tg (y : MY) (x : Nat) : Nat → Int32 := fun i => y.2.2 22 (80 * x + i)
def RtQ (o : OY) (y : MY) (r : Bool × PS) : Option Value → Mem → Prop := Rt (some (.int (bI r.1))) (mM o (rdS y r.2))
theorem m_kindOf (L : Nat) (μ : Mem) (c : Int32) : Ct yX1_kindOf gX1_kindOf (L + 10) 0 0 [.int c] μ (Rt (some (.int (knd c))) μ) := by
  refine Ct.of rfl rfl rfl rfl rfl ?_
  refine gl_iload_n dX1_kindOf_0 rfl ?_
  refine gl_bipush (v := nI 110) dX1_kindOf_1 (by decide) ?_
  refine gl_icmp_ne (tgt := 10) dX1_kindOf_3 (by decide) (fun h3 => ?_) (fun h3 => ?_)
  · refine gl_iload_n dX1_kindOf_10 rfl ?_
    refine gl_bipush (v := nI 121) dX1_kindOf_11 (by decide) ?_
    refine gl_icmp_ne (tgt := 20) dX1_kindOf_13 (by decide) (fun h13 => ?_) (fun h13 => ?_)
    · refine gl_iload_n dX1_kindOf_20 rfl ?_
      refine gl_bipush (v := nI 112) dX1_kindOf_21 (by decide) ?_
      refine gl_icmp_ne (tgt := 30) dX1_kindOf_23 (by decide) (fun h23 => ?_) (fun h23 => ?_)
      · refine gl_iload_n dX1_kindOf_30 rfl ?_
        refine gl_bipush (v := nI 118) dX1_kindOf_31 (by decide) ?_
        refine gl_icmp_ne (tgt := 40) dX1_kindOf_33 (by decide) (fun h33 => ?_) (fun h33 => ?_)
        · refine gl_iload_n dX1_kindOf_40 rfl ?_
          refine gl_bipush (v := nI 116) dX1_kindOf_41 (by decide) ?_
          refine gl_icmp_ne (tgt := 50) dX1_kindOf_43 (by decide) (fun h43 => ?_) (fun h43 => ?_)
          · refine gl_iload_n dX1_kindOf_50 rfl ?_
            refine gl_bipush (v := nI 98) dX1_kindOf_51 (by decide) ?_
            refine gl_icmp_ne (tgt := 60) dX1_kindOf_53 (by decide) (fun h53 => ?_) (fun h53 => ?_)
            · refine gl_iconst (v := (-1)) dX1_kindOf_60 (by decide) ?_
              exact gl_iret dX1_kindOf_61 rfl ⟨by simp_all [knd, nI], rfl⟩
            · refine gl_iconst (v := nI 5) dX1_kindOf_56 (by decide) ?_
              refine gl_goto (tgt := 61) dX1_kindOf_57 (by decide) ?_
              exact gl_iret dX1_kindOf_61 rfl ⟨by simp_all [knd, nI], rfl⟩
          · refine gl_iconst (v := nI 4) dX1_kindOf_46 (by decide) ?_
            refine gl_goto (tgt := 61) dX1_kindOf_47 (by decide) ?_
            exact gl_iret dX1_kindOf_61 rfl ⟨by simp_all [knd, nI], rfl⟩
        · refine gl_iconst (v := nI 3) dX1_kindOf_36 (by decide) ?_
          refine gl_goto (tgt := 61) dX1_kindOf_37 (by decide) ?_
          exact gl_iret dX1_kindOf_61 rfl ⟨by simp_all [knd, nI], rfl⟩
      · refine gl_iconst (v := nI 2) dX1_kindOf_26 (by decide) ?_
        refine gl_goto (tgt := 61) dX1_kindOf_27 (by decide) ?_
        exact gl_iret dX1_kindOf_61 rfl ⟨by simp_all [knd, nI], rfl⟩
    · refine gl_iconst (v := nI 1) dX1_kindOf_16 (by decide) ?_
      refine gl_goto (tgt := 61) dX1_kindOf_17 (by decide) ?_
      exact gl_iret dX1_kindOf_61 rfl ⟨by simp_all [knd, nI], rfl⟩
  · refine gl_iconst (v := nI 0) dX1_kindOf_6 (by decide) ?_
    refine gl_goto (tgt := 61) dX1_kindOf_7 (by decide) ?_
    exact gl_iret dX1_kindOf_61 rfl ⟨by simp_all [knd, nI], rfl⟩
theorem tk_le (g : Nat → Int32) (s : Nat) (u : PS) (a : Nat) (lo hi : Int32) : (tk g s u a lo hi).2.1 ≤ u.1 + 1 := by
  unfold tk
  split
  · exact Nat.le_refl _
  · exact Nat.le_succ _
theorem thn_f {r : Bool × PS} {f : PS → Bool × PS} (h : bI r.1 = 0) : thn r f = (false, r.2) := by
  obtain ⟨a, b⟩ := r
  have := bI_fa h
  dsimp only at this
  subst this
  rfl
theorem thn_t {r : Bool × PS} {f : PS → Bool × PS} (h : ¬ bI r.1 = 0) : thn r f = f r.2 := if_pos (bI_tr h)
section MT
variable (L : Nat) (o : OY) (y : MY)
theorem m_byteAt (x s : Nat) (hx : x < 4) (hs : s ≤ 80) (e : y.2.2 21 x = nI s) (u : PS) (hu : u.1 ≤ 1000) : Ct yX1_byteAt gX1_byteAt (L + 10) 0 0 [.ref 18, .int (nI x)] (mM o (rdS y u)) (Rt (some (.int (bt (tg y x) s u.1))) (mM o (rdS y u))) := by
  refine Ct.of rfl rfl rfl rfl rfl ?_
  obtain ⟨p, rd⟩ := u
  dsimp only at hu
  refine gl_aload_n dX1_byteAt_0 rfl ?_
  refine gl_get (k := 13) dX1_byteAt_1 rfl (rfl : vwCl[1]? = some (RX1, TX1, 21)) in_X1 (by decide) q1033 rfl ?_
  refine gl_aload_n dX1_byteAt_4 rfl ?_
  refine gl_get (k := 2) dX1_byteAt_5 rfl (rfl : vwCl[1]? = some (RX1, TX1, 21)) in_X1 (by decide) q1022 rfl ?_
  refine gl_iload_n dX1_byteAt_8 rfl ?_
  refine gl_iald (j := x) dX1_byteAt_9 rfl rfl (by omega) ?_
  refine gl_icmp_ge (tgt := 30) dX1_byteAt_10 (by decide) (fun h => ?_) (fun h => ?_)
  · have h' : ¬ p < s := by
      have : nI s ≤ nI p := by rw [← e]; exact h
      have := (nI_leI (by omega) (by omega)).mp this
      omega
    refine gl_sipush (v := (-1000)) dX1_byteAt_30 (by decide) ?_
    exact gl_iret dX1_byteAt_33 rfl ⟨by simp [bt, h'], rfl⟩
  · have h' : p < s := by
      have : ¬ nI s ≤ nI p := by rw [← e]; exact h
      have := mt (nI_leI (by omega) (by omega)).mpr this
      omega
    refine gl_aload_n dX1_byteAt_13 rfl ?_
    refine gl_get (k := 3) dX1_byteAt_14 rfl (rfl : vwCl[1]? = some (RX1, TX1, 21)) in_X1 (by decide) q1023 rfl ?_
    refine gl_bipush (v := nI 80) dX1_byteAt_17 (by decide) ?_
    refine gl_iload_n dX1_byteAt_19 rfl ?_
    refine gl_imul dX1_byteAt_20 ?_
    refine gl_aload_n dX1_byteAt_21 rfl ?_
    refine gl_get (k := 13) dX1_byteAt_22 rfl (rfl : vwCl[1]? = some (RX1, TX1, 21)) in_X1 (by decide) q1033 rfl ?_
    refine gl_iadd dX1_byteAt_25 ?_
    refine gl_iald (j := (80*x+p)) dX1_byteAt_26 rfl (by show nI 80 * nI x + nI p = _; simp only [nI_add, nI_mul]) (by omega) ?_
    refine gl_goto (tgt := 33) dX1_byteAt_27 (by decide) ?_
    exact gl_iret dX1_byteAt_33 rfl ⟨by simp [bt, h']; rfl, rfl⟩
theorem m_takes (x s : Nat) (hx : x < 4) (hs : s ≤ 80) (e : y.2.2 21 x = nI s) (u : PS) (hu : u.1 ≤ 1000) (a : Nat) (ha : a < 393) (lo hi : Int32) : Ct yX1_takes gX1_takes (L + 11) 0 0 [.ref 18, .int (nI x), .int (nI a), .int lo, .int hi] (mM o (rdS y u)) (RtQ o y (tk (tg y x) s u a lo hi)) := by
  refine Ct.of rfl rfl rfl rfl rfl ?_
  refine gl_aload_n dX1_takes_0 rfl ?_
  refine gl_iload_n dX1_takes_1 rfl ?_
  refine gl_callV (m_byteAt L o y x s hx hs e u hu) dX1_takes_2 q1146 q1148 qs47 q75 q1149 rfl hX1_byteAt rfl (rfl : vwCl[1]? = some (RX1, TX1, 21)) rfl rfl (rmOk (by omega) rfl) ⟨by first | exact Nat.le_refl _ | exact Nat.zero_le _ | decide | (dsimp only [rm]; omega), by first | exact Nat.le_refl _ | exact Nat.zero_le _ | decide | (dsimp only [rm]; omega)⟩ (rt1 ?_)
  refine gl_bipush (v := nI 48) dX1_takes_5 (by decide) ?_
  refine gl_isub dX1_takes_7 ?_
  refine gl_istore dX1_takes_8 rfl rfl ?_
  refine gl_iload dX1_takes_10 rfl ?_
  refine gl_i2l dX1_takes_12 ?_
  refine gl_iload_n dX1_takes_13 rfl ?_
  refine gl_i2l dX1_takes_14 ?_
  refine gl_iload dX1_takes_15 rfl ?_
  refine gl_i2l dX1_takes_17 ?_
  refine gl_callS (m_in_i L _ _ _ _ rfl rfl) dX1_takes_18 q1093 q1094 q75 q1095 rfl hX1_in rfl rfl (rmOk (by omega) rfl) ⟨by first | exact Nat.le_refl _ | exact Nat.zero_le _ | decide | (dsimp only [rm]; omega), by first | exact Nat.le_refl _ | exact Nat.zero_le _ | decide | (dsimp only [rm]; omega)⟩ (rt1 ?_)
  refine gl_if_ne (tgt := 26) dX1_takes_21 (by decide) (fun h21 => ?_) (fun h21 => ?_)
  · unfold tk
    rw [if_pos (bI_tr h21)]
    refine gl_aload_n dX1_takes_26 rfl ?_
    refine gl_get (k := 12) dX1_takes_27 rfl (rfl : vwCl[1]? = some (RX1, TX1, 21)) in_X1 (by decide) q1032 rfl ?_
    refine gl_iload_n dX1_takes_30 rfl ?_
    refine gl_iload dX1_takes_31 rfl ?_
    refine gl_iast (j := a) dX1_takes_33 rfl rfl (by omega) ?_
    refine gl_aload_n dX1_takes_34 rfl ?_
    refine gl_dup dX1_takes_35 rfl ?_
    refine gl_get (k := 13) dX1_takes_36 rfl (rfl : vwCl[1]? = some (RX1, TX1, 21)) in_X1 (by decide) q1033 rfl ?_
    refine gl_iconst (v := nI 1) dX1_takes_39 (by decide) ?_
    refine gl_iadd dX1_takes_40 ?_
    refine gl_put (k := 13) dX1_takes_41 rfl (rfl : vwCl[1]? = some (RX1, TX1, 21)) in_X1 tyX1 tyX1_ok nmX1 (by decide) rfl q1033 (fun _ _ => ⟨rfl, rfl⟩) rfl ?_
    refine gl_mem (μ1 := mM o (rdS y (u.1 + 1, upd u.2 a (bt (tg y x) s u.1 - nI 48)))) (by show _ = mM o (sI (sA y 27 (upd u.2 a (bt (tg y x) s u.1 - nI 48))) 13 (nI (u.1 + 1))); rw [← nI_add]; rfl) ?_
    refine gl_iconst (v := nI 1) dX1_takes_44 (by decide) ?_
    exact gl_zret dX1_takes_45 rfl (by decide) ⟨rfl, rfl⟩
  · unfold tk
    rw [if_neg (by simp [bI_fa h21])]
    refine gl_iconst (v := nI 0) dX1_takes_24 (by decide) ?_
    exact gl_zret dX1_takes_25 rfl (by decide) ⟨rfl, rfl⟩
theorem rdS_2 (u : PS) : (rdS y u).2.2 27 = u.2 := rfl
theorem m_takesCard (x s : Nat) (hx : x < 4) (hs : s ≤ 80) (e : y.2.2 21 x = nI s) (u : PS) (hu : u.1 ≤ 900) (c : Nat) (hc : c ≤ 7) (ec : u.2 0 = nI c) : Ct yX1_takesCard gX1_takesCard (L + 12) 0 0 [.ref 18, .int (nI x)] (mM o (rdS y u)) (RtQ o y (tc (tg y x) s u)) := by
  refine Ct.of rfl rfl rfl rfl rfl ?_
  obtain ⟨p, rd⟩ := u
  dsimp only at hu ec
  refine gl_aload_n dX1_takesCard_0 rfl ?_
  refine gl_get (k := 12) dX1_takesCard_1 rfl (rfl : vwCl[1]? = some (RX1, TX1, 21)) in_X1 (by decide) q1032 rfl ?_
  refine gl_iconst (v := nI 0) dX1_takesCard_4 (by decide) ?_
  refine gl_iald (j := 0) dX1_takesCard_5 rfl rfl (by omega) ?_
  refine gl_istore_n dX1_takesCard_6 rfl rfl ?_
  refine gl_aload_n dX1_takesCard_7 rfl ?_
  refine gl_iload_n dX1_takesCard_8 rfl ?_
  refine gl_callV (m_byteAt L o y x s hx hs e (p, rd) (by omega)) dX1_takesCard_9 q1146 q1148 qs47 q75 q1149 rfl hX1_byteAt rfl (rfl : vwCl[1]? = some (RX1, TX1, 21)) rfl rfl (rmOk (by omega) rfl) ⟨by first | exact Nat.le_refl _ | exact Nat.zero_le _ | decide | (dsimp only [rm]; omega), by first | exact Nat.le_refl _ | exact Nat.zero_le _ | decide | (dsimp only [rm]; omega)⟩ (rt1 ?_)
  refine gl_callS (m_kindOf L _ _) dX1_takesCard_12 q1162 q1163 q75 q1164 rfl hX1_kindOf rfl rfl (rmOk (by omega) rfl) ⟨by first | exact Nat.le_refl _ | exact Nat.zero_le _ | decide | (dsimp only [rm]; omega), by first | exact Nat.le_refl _ | exact Nat.zero_le _ | decide | (dsimp only [rm]; omega)⟩ (rt1 ?_)
  refine gl_istore_n dX1_takesCard_15 rfl rfl ?_
  refine gl_iload_n dX1_takesCard_16 rfl ?_
  refine gl_if_lt (tgt := 35) dX1_takesCard_17 (by decide) (fun h17 => ?_) (fun h17 => ?_)
  · unfold tc
    rw [if_pos (Or.inl h17)]
    refine gl_iconst (v := nI 0) dX1_takesCard_35 (by decide) ?_
    exact gl_zret dX1_takesCard_36 rfl (by decide) ⟨rfl, rfl⟩
  · refine gl_iload_n dX1_takesCard_20 rfl ?_
    refine gl_bipush (v := nI 7) dX1_takesCard_21 (by decide) ?_
    refine gl_icmp_eq (tgt := 35) dX1_takesCard_23 (by decide) (fun h23 => ?_) (fun h23 => ?_)
    · unfold tc
      rw [if_pos (Or.inr (Or.inl (show rd 0 = nI 7 from h23)))]
      refine gl_iconst (v := nI 0) dX1_takesCard_35 (by decide) ?_
      exact gl_zret dX1_takesCard_36 rfl (by decide) ⟨rfl, rfl⟩
    · refine gl_aload_n dX1_takesCard_26 rfl ?_
      refine gl_get (k := 12) dX1_takesCard_27 rfl (rfl : vwCl[1]? = some (RX1, TX1, 21)) in_X1 (by decide) q1032 rfl ?_
      refine gl_iconst (v := nI 1) dX1_takesCard_30 (by decide) ?_
      refine gl_iald (j := 1) dX1_takesCard_31 rfl rfl (by omega) ?_
      refine gl_if_le (tgt := 37) dX1_takesCard_32 (by decide) (fun h32 => ?_) (fun h32 => ?_)
      · have h1 : ¬ (0 : Int32) < rd 1 := k2_nlt h32
        unfold tc
        rw [if_neg (by intro q; rcases q with q | q | q; exact h17 q; exact h23 q; exact h1 q)]
        have hc7 : c < 7 := by
          rcases Nat.lt_or_ge c 7 with q | q
          · exact q
          · exact absurd (by show rd 0 = nI 7; rw [ec]; congr 1; omega) h23
        refine gl_aload_n dX1_takesCard_37 rfl ?_
        refine gl_dup dX1_takesCard_38 rfl ?_
        refine gl_get (k := 13) dX1_takesCard_39 rfl (rfl : vwCl[1]? = some (RX1, TX1, 21)) in_X1 (by decide) q1033 rfl ?_
        refine gl_iconst (v := nI 1) dX1_takesCard_42 (by decide) ?_
        refine gl_iadd dX1_takesCard_43 ?_
        refine gl_put (k := 13) dX1_takesCard_44 rfl (rfl : vwCl[1]? = some (RX1, TX1, 21)) in_X1 tyX1 tyX1_ok nmX1 (by decide) rfl q1033 (fun _ _ => ⟨rfl, rfl⟩) rfl ?_
        refine gl_mem (μ1 := mM o (rdS y (p + 1, rd))) (by show _ = mM o (sI (sA y 27 rd) 13 (nI (p + 1))); rw [← nI_add]; rfl) ?_
        refine gl_lcs (lc1 := [some (.ref 18), some (.int (nI x)), some (.int (nI c)), some (.int (knd (bt (tg y x) s p)))]) (by rw [← ec]; rfl) ?_
        have e0 : ix (rd 0) = c := by rw [ec]; exact ix_nI (by omega)
        dsimp only
        rw [e0]
        refine gl_aload_n dX1_takesCard_47 rfl ?_
        refine gl_get (k := 12) dX1_takesCard_48 rfl (rfl : vwCl[1]? = some (RX1, TX1, 21)) in_X1 (by decide) q1032 rfl ?_
        refine gl_iconst (v := nI 3) dX1_takesCard_51 (by decide) ?_
        refine gl_iload_n dX1_takesCard_52 rfl ?_
        refine gl_iadd dX1_takesCard_53 ?_
        refine gl_iload_n dX1_takesCard_54 rfl ?_
        refine gl_iast (j := (3 + c)) dX1_takesCard_55 rfl (by simp only [nI_add, nI_mul]) (by omega) ?_
        refine gl_aload_n dX1_takesCard_56 rfl ?_
        refine gl_get (k := 12) dX1_takesCard_57 rfl (rfl : vwCl[1]? = some (RX1, TX1, 21)) in_X1 (by decide) q1032 rfl ?_
        refine gl_iconst (v := nI 0) dX1_takesCard_60 (by decide) ?_
        refine gl_dup2 dX1_takesCard_61 rfl rfl ?_
        refine gl_iald (j := 0) dX1_takesCard_62 rfl rfl (by omega) ?_
        refine gl_iconst (v := nI 1) dX1_takesCard_63 (by decide) ?_
        refine gl_iadd dX1_takesCard_64 ?_
        refine gl_iast (j := 0) dX1_takesCard_65 rfl rfl (by omega) ?_
        refine gl_mem (μ1 := mM o (rdS y (p + 1, upd (upd rd (3 + c) (knd (bt (tg y x) s p))) 0 (rd 0 + nI 1)))) (by
          have z : upd rd (3 + c) (knd (bt (tg y x) s p)) 0 = rd 0 := pk_un (by omega)
          rw [← z]; rfl) ?_
        generalize upd (upd rd (3 + c) (knd (bt (tg y x) s p))) 0 (rd 0 + nI 1) = rd1
        refine gl_aload_n dX1_takesCard_66 rfl ?_
        refine gl_iload_n dX1_takesCard_67 rfl ?_
        refine gl_bipush (v := nI 10) dX1_takesCard_68 (by decide) ?_
        refine gl_iload_n dX1_takesCard_70 rfl ?_
        refine gl_iadd dX1_takesCard_71 ?_
        refine gl_iconst (v := nI 0) dX1_takesCard_72 (by decide) ?_
        refine gl_bipush (v := nI 9) dX1_takesCard_73 (by decide) ?_
        rw [nI_add]
        refine gl_callV (m_takes L o y x s hx hs e (p + 1, rd1) (by dsimp only; omega) (10 + c) (by omega) _ _) dX1_takesCard_75 q1154 q1156 qs49 q75 q1157 rfl hX1_takes rfl (rfl : vwCl[1]? = some (RX1, TX1, 21)) rfl rfl (rmOk (by omega) rfl) ⟨by first | exact Nat.le_refl _ | exact Nat.zero_le _ | decide | (dsimp only [rm]; omega), by first | exact Nat.le_refl _ | exact Nat.zero_le _ | decide | (dsimp only [rm]; omega)⟩ (rt1 ?_)
        generalize hr1 : tk (tg y x) s (p + 1, rd1) (10 + c) (nI 0) (nI 9) = r1
        have hp1 : r1.2.1 ≤ 1000 := by rw [← hr1]; exact Nat.le_trans (tk_le _ _ _ _ _ _) (by dsimp only; omega)
        refine gl_if_eq (tgt := 114) dX1_takesCard_78 (by decide) (fun h78 => ?_) (fun h78 => ?_)
        · rw [thn_f h78, thn_f (r := (false, r1.2)) rfl]
          refine gl_iconst (v := nI 0) dX1_takesCard_114 (by decide) ?_
          exact gl_zret dX1_takesCard_115 rfl (by decide) ⟨rfl, rfl⟩
        · rw [thn_t h78]
          refine gl_aload_n dX1_takesCard_81 rfl ?_
          refine gl_iload_n dX1_takesCard_82 rfl ?_
          refine gl_bipush (v := nI 17) dX1_takesCard_83 (by decide) ?_
          refine gl_iload_n dX1_takesCard_85 rfl ?_
          refine gl_iadd dX1_takesCard_86 ?_
          refine gl_iconst (v := nI 0) dX1_takesCard_87 (by decide) ?_
          refine gl_iconst (v := nI 3) dX1_takesCard_88 (by decide) ?_
          rw [nI_add]
          refine gl_callV (m_takes L o y x s hx hs e r1.2 hp1 (17 + c) (by omega) _ _) dX1_takesCard_89 q1154 q1156 qs49 q75 q1157 rfl hX1_takes rfl (rfl : vwCl[1]? = some (RX1, TX1, 21)) rfl rfl (rmOk (by omega) rfl) ⟨by first | exact Nat.le_refl _ | exact Nat.zero_le _ | decide | (dsimp only [rm]; omega), by first | exact Nat.le_refl _ | exact Nat.zero_le _ | decide | (dsimp only [rm]; omega)⟩ (rt1 ?_)
          generalize hr2 : tk (tg y x) s r1.2 (17 + c) (nI 0) (nI 3) = r2
          have hp2 : r2.2.1 ≤ 1000 := by rw [← hr2]; exact Nat.le_trans (tk_le _ _ _ _ _ _) (by rw [← hr1]; have := tk_le (tg y x) s (p + 1, rd1) (10 + c) (nI 0) (nI 9); dsimp only at this; omega)
          refine gl_if_eq (tgt := 114) dX1_takesCard_92 (by decide) (fun h92 => ?_) (fun h92 => ?_)
          · rw [thn_f h92]
            refine gl_iconst (v := nI 0) dX1_takesCard_114 (by decide) ?_
            exact gl_zret dX1_takesCard_115 rfl (by decide) ⟨rfl, rfl⟩
          · rw [thn_t h92]
            refine gl_aload_n dX1_takesCard_95 rfl ?_
            refine gl_iload_n dX1_takesCard_96 rfl ?_
            refine gl_bipush (v := nI 24) dX1_takesCard_97 (by decide) ?_
            refine gl_iload_n dX1_takesCard_99 rfl ?_
            refine gl_iadd dX1_takesCard_100 ?_
            refine gl_iconst (v := nI 0) dX1_takesCard_101 (by decide) ?_
            refine gl_bipush (v := nI 9) dX1_takesCard_102 (by decide) ?_
            rw [nI_add]
            refine gl_callV (m_takes L o y x s hx hs e r2.2 hp2 (24 + c) (by omega) _ _) dX1_takesCard_104 q1154 q1156 qs49 q75 q1157 rfl hX1_takes rfl (rfl : vwCl[1]? = some (RX1, TX1, 21)) rfl rfl (rmOk (by omega) rfl) ⟨by first | exact Nat.le_refl _ | exact Nat.zero_le _ | decide | (dsimp only [rm]; omega), by first | exact Nat.le_refl _ | exact Nat.zero_le _ | decide | (dsimp only [rm]; omega)⟩ (rt1 ?_)
            generalize hr3 : tk (tg y x) s r2.2 (24 + c) (nI 0) (nI 9) = r3
            refine gl_if_eq (tgt := 114) dX1_takesCard_107 (by decide) (fun h107 => ?_) (fun h107 => ?_)
            · refine gl_iconst (v := nI 0) dX1_takesCard_114 (by decide) ?_
              exact gl_zret dX1_takesCard_115 rfl (by decide) ⟨by rw [bI_fa h107]; rfl, rfl⟩
            · refine gl_iconst (v := nI 1) dX1_takesCard_110 (by decide) ?_
              refine gl_goto (tgt := 115) dX1_takesCard_111 (by decide) ?_
              exact gl_zret dX1_takesCard_115 rfl (by decide) ⟨by rw [bI_tr h107]; rfl, rfl⟩
      · unfold tc
        rw [if_pos (Or.inr (Or.inr (show 0 < rd 1 from k2_lt h32)))]
        refine gl_iconst (v := nI 0) dX1_takesCard_35 (by decide) ?_
        exact gl_zret dX1_takesCard_36 rfl (by decide) ⟨rfl, rfl⟩
theorem m_takesQuestion (x s : Nat) (hx : x < 4) (hs : s ≤ 80) (e : y.2.2 21 x = nI s) (u : PS) (hu : u.1 ≤ 900) (c : Nat) (hc : c ≤ 7) (ec : u.2 1 = nI c) : Ct yX1_takesQuestion gX1_takesQuestion (L + 12) 0 0 [.ref 18, .int (nI x)] (mM o (rdS y u)) (RtQ o y (tq (tg y x) s u)) := by
  refine Ct.of rfl rfl rfl rfl rfl ?_
  obtain ⟨p, rd⟩ := u
  dsimp only at hu ec
  refine gl_aload_n dX1_takesQuestion_0 rfl ?_
  refine gl_get (k := 12) dX1_takesQuestion_1 rfl (rfl : vwCl[1]? = some (RX1, TX1, 21)) in_X1 (by decide) q1032 rfl ?_
  refine gl_iconst (v := nI 1) dX1_takesQuestion_4 (by decide) ?_
  refine gl_iald (j := 1) dX1_takesQuestion_5 rfl rfl (by omega) ?_
  refine gl_istore_n dX1_takesQuestion_6 rfl rfl ?_
  refine gl_aload_n dX1_takesQuestion_7 rfl ?_
  refine gl_get (k := 12) dX1_takesQuestion_8 rfl (rfl : vwCl[1]? = some (RX1, TX1, 21)) in_X1 (by decide) q1032 rfl ?_
  refine gl_iconst (v := nI 0) dX1_takesQuestion_11 (by decide) ?_
  refine gl_iald (j := 0) dX1_takesQuestion_12 rfl rfl (by omega) ?_
  refine gl_if_eq (tgt := 22) dX1_takesQuestion_13 (by decide) (fun h13 => ?_) (fun h13 => ?_)
  · unfold tq
    rw [if_pos (Or.inl (show rd 0 = 0 from h13))]
    refine gl_iconst (v := nI 0) dX1_takesQuestion_22 (by decide) ?_
    exact gl_zret dX1_takesQuestion_23 rfl (by decide) ⟨rfl, rfl⟩
  · refine gl_iload_n dX1_takesQuestion_16 rfl ?_
    refine gl_bipush (v := nI 7) dX1_takesQuestion_17 (by decide) ?_
    refine gl_icmp_ne (tgt := 24) dX1_takesQuestion_19 (by decide) (fun h19 => ?_) (fun h19 => ?_)
    · unfold tq
      rw [if_neg (by intro q; rcases q with q | q; exact h13 q; exact h19 q)]
      have hc7 : c < 7 := by
        rcases Nat.lt_or_ge c 7 with q | q
        · exact q
        · exact absurd (by show rd 1 = nI 7; rw [ec]; congr 1; omega) h19
      refine gl_aload_n dX1_takesQuestion_24 rfl ?_
      refine gl_dup dX1_takesQuestion_25 rfl ?_
      refine gl_get (k := 13) dX1_takesQuestion_26 rfl (rfl : vwCl[1]? = some (RX1, TX1, 21)) in_X1 (by decide) q1033 rfl ?_
      refine gl_iconst (v := nI 1) dX1_takesQuestion_29 (by decide) ?_
      refine gl_iadd dX1_takesQuestion_30 ?_
      refine gl_put (k := 13) dX1_takesQuestion_31 rfl (rfl : vwCl[1]? = some (RX1, TX1, 21)) in_X1 tyX1 tyX1_ok nmX1 (by decide) rfl q1033 (fun _ _ => ⟨rfl, rfl⟩) rfl ?_
      refine gl_mem (μ1 := mM o (rdS y (p + 1, rd))) (by show _ = mM o (sI (sA y 27 rd) 13 (nI (p + 1))); rw [← nI_add]; rfl) ?_
      refine gl_lcs (lc1 := [some (.ref 18), some (.int (nI x)), some (.int (nI c))]) (by rw [← ec]; rfl) ?_
      have e0 : ix (rd 1) = c := by rw [ec]; exact ix_nI (by omega)
      dsimp only
      rw [e0]
      refine gl_aload_n dX1_takesQuestion_34 rfl ?_
      refine gl_get (k := 12) dX1_takesQuestion_35 rfl (rfl : vwCl[1]? = some (RX1, TX1, 21)) in_X1 (by decide) q1032 rfl ?_
      refine gl_iconst (v := nI 1) dX1_takesQuestion_38 (by decide) ?_
      refine gl_dup2 dX1_takesQuestion_39 rfl rfl ?_
      refine gl_iald (j := 1) dX1_takesQuestion_40 rfl rfl (by omega) ?_
      refine gl_iconst (v := nI 1) dX1_takesQuestion_41 (by decide) ?_
      refine gl_iadd dX1_takesQuestion_42 ?_
      refine gl_iast (j := 1) dX1_takesQuestion_43 rfl rfl (by omega) ?_
      refine gl_mem (μ1 := mM o (rdS y (p + 1, upd rd 1 (rd 1 + nI 1)))) rfl ?_
      generalize upd rd 1 (rd 1 + nI 1) = rd1
      refine gl_aload_n dX1_takesQuestion_44 rfl ?_
      refine gl_iload_n dX1_takesQuestion_45 rfl ?_
      refine gl_bipush (v := nI 31) dX1_takesQuestion_46 (by decide) ?_
      refine gl_iload_n dX1_takesQuestion_48 rfl ?_
      refine gl_iadd dX1_takesQuestion_49 ?_
      refine gl_iconst (v := nI 0) dX1_takesQuestion_50 (by decide) ?_
      refine gl_iconst (v := nI 5) dX1_takesQuestion_51 (by decide) ?_
      rw [nI_add]
      refine gl_callV (m_takes L o y x s hx hs e (p + 1, rd1) (by dsimp only; omega) (31 + c) (by omega) _ _) dX1_takesQuestion_52 q1154 q1156 qs49 q75 q1157 rfl hX1_takes rfl (rfl : vwCl[1]? = some (RX1, TX1, 21)) rfl rfl (rmOk (by omega) rfl) ⟨by first | exact Nat.le_refl _ | exact Nat.zero_le _ | decide | (dsimp only [rm]; omega), by first | exact Nat.le_refl _ | exact Nat.zero_le _ | decide | (dsimp only [rm]; omega)⟩ (rt1 ?_)
      generalize hr1 : tk (tg y x) s (p + 1, rd1) (31 + c) (nI 0) (nI 5) = r1
      have hp1 : r1.2.1 ≤ 902 := by rw [← hr1]; exact Nat.le_trans (tk_le _ _ _ _ _ _) (by dsimp only; omega)
      refine gl_if_eq (tgt := 115) dX1_takesQuestion_55 (by decide) (fun h55 => ?_) (fun h55 => ?_)
      · rw [thn_f h55, thn_f (r := (false, r1.2)) rfl, thn_f (r := (false, r1.2)) rfl]
        refine gl_iconst (v := nI 0) dX1_takesQuestion_115 (by decide) ?_
        exact gl_zret dX1_takesQuestion_116 rfl (by decide) ⟨rfl, rfl⟩
      · rw [thn_t h55]
        refine gl_aload_n dX1_takesQuestion_58 rfl ?_
        refine gl_iload_n dX1_takesQuestion_59 rfl ?_
        refine gl_bipush (v := nI 38) dX1_takesQuestion_60 (by decide) ?_
        refine gl_iload_n dX1_takesQuestion_62 rfl ?_
        refine gl_iadd dX1_takesQuestion_63 ?_
        refine gl_iconst (v := nI 0) dX1_takesQuestion_64 (by decide) ?_
        refine gl_bipush (v := nI 9) dX1_takesQuestion_65 (by decide) ?_
        rw [nI_add]
        refine gl_callV (m_takes L o y x s hx hs e r1.2 (by omega) (38 + c) (by omega) _ _) dX1_takesQuestion_67 q1154 q1156 qs49 q75 q1157 rfl hX1_takes rfl (rfl : vwCl[1]? = some (RX1, TX1, 21)) rfl rfl (rmOk (by omega) rfl) ⟨by first | exact Nat.le_refl _ | exact Nat.zero_le _ | decide | (dsimp only [rm]; omega), by first | exact Nat.le_refl _ | exact Nat.zero_le _ | decide | (dsimp only [rm]; omega)⟩ (rt1 ?_)
        generalize hr2 : tk (tg y x) s r1.2 (38 + c) (nI 0) (nI 9) = r2
        have hp2 : r2.2.1 ≤ 903 := by rw [← hr2]; exact Nat.le_trans (tk_le _ _ _ _ _ _) (by omega)
        refine gl_if_eq (tgt := 115) dX1_takesQuestion_70 (by decide) (fun h70 => ?_) (fun h70 => ?_)
        · rw [thn_f h70, thn_f (r := (false, r2.2)) rfl]
          refine gl_iconst (v := nI 0) dX1_takesQuestion_115 (by decide) ?_
          exact gl_zret dX1_takesQuestion_116 rfl (by decide) ⟨rfl, rfl⟩
        · rw [thn_t h70]
          refine gl_aload_n dX1_takesQuestion_73 rfl ?_
          refine gl_iload_n dX1_takesQuestion_74 rfl ?_
          refine gl_bipush (v := nI 45) dX1_takesQuestion_75 (by decide) ?_
          refine gl_iload_n dX1_takesQuestion_77 rfl ?_
          refine gl_iadd dX1_takesQuestion_78 ?_
          refine gl_aload_n dX1_takesQuestion_79 rfl ?_
          refine gl_get (k := 12) dX1_takesQuestion_80 rfl (rfl : vwCl[1]? = some (RX1, TX1, 21)) in_X1 (by decide) q1032 rfl ?_
          refine gl_bipush (v := nI 38) dX1_takesQuestion_83 (by decide) ?_
          refine gl_iload_n dX1_takesQuestion_85 rfl ?_
          refine gl_iadd dX1_takesQuestion_86 ?_
          refine gl_iald (j := (38 + c)) dX1_takesQuestion_87 rfl (by simp only [nI_add, nI_mul]) (by omega) ?_
          refine gl_bipush (v := nI 9) dX1_takesQuestion_88 (by decide) ?_
          rw [nI_add]
          refine gl_callV (m_takes L o y x s hx hs e r2.2 (by omega) (45 + c) (by omega) _ _) dX1_takesQuestion_90 q1154 q1156 qs49 q75 q1157 rfl hX1_takes rfl (rfl : vwCl[1]? = some (RX1, TX1, 21)) rfl rfl (rmOk (by omega) rfl) ⟨by first | exact Nat.le_refl _ | exact Nat.zero_le _ | decide | (dsimp only [rm]; omega), by first | exact Nat.le_refl _ | exact Nat.zero_le _ | decide | (dsimp only [rm]; omega)⟩ (rt1 ?_)
          rw [show (rdS y r2.2).2.2 27 = r2.2.2 from rfl]
          generalize hr3 : tk (tg y x) s r2.2 (45 + c) (r2.2.2 (38 + c)) (nI 9) = r3
          have hp3 : r3.2.1 ≤ 904 := by rw [← hr3]; exact Nat.le_trans (tk_le _ _ _ _ _ _) (by omega)
          refine gl_if_eq (tgt := 115) dX1_takesQuestion_93 (by decide) (fun h93 => ?_) (fun h93 => ?_)
          · rw [thn_f h93]
            refine gl_iconst (v := nI 0) dX1_takesQuestion_115 (by decide) ?_
            exact gl_zret dX1_takesQuestion_116 rfl (by decide) ⟨rfl, rfl⟩
          · rw [thn_t h93]
            refine gl_aload_n dX1_takesQuestion_96 rfl ?_
            refine gl_iload_n dX1_takesQuestion_97 rfl ?_
            refine gl_bipush (v := nI 52) dX1_takesQuestion_98 (by decide) ?_
            refine gl_iload_n dX1_takesQuestion_100 rfl ?_
            refine gl_iadd dX1_takesQuestion_101 ?_
            refine gl_iconst (v := nI 1) dX1_takesQuestion_102 (by decide) ?_
            refine gl_bipush (v := nI 9) dX1_takesQuestion_103 (by decide) ?_
            rw [nI_add]
            refine gl_callV (m_takes L o y x s hx hs e r3.2 (by omega) (52 + c) (by omega) _ _) dX1_takesQuestion_105 q1154 q1156 qs49 q75 q1157 rfl hX1_takes rfl (rfl : vwCl[1]? = some (RX1, TX1, 21)) rfl rfl (rmOk (by omega) rfl) ⟨by first | exact Nat.le_refl _ | exact Nat.zero_le _ | decide | (dsimp only [rm]; omega), by first | exact Nat.le_refl _ | exact Nat.zero_le _ | decide | (dsimp only [rm]; omega)⟩ (rt1 ?_)
            generalize hr4 : tk (tg y x) s r3.2 (52 + c) (nI 1) (nI 9) = r4
            refine gl_if_eq (tgt := 115) dX1_takesQuestion_108 (by decide) (fun h108 => ?_) (fun h108 => ?_)
            · refine gl_iconst (v := nI 0) dX1_takesQuestion_115 (by decide) ?_
              exact gl_zret dX1_takesQuestion_116 rfl (by decide) ⟨by rw [bI_fa h108]; rfl, rfl⟩
            · refine gl_iconst (v := nI 1) dX1_takesQuestion_111 (by decide) ?_
              refine gl_goto (tgt := 116) dX1_takesQuestion_112 (by decide) ?_
              exact gl_zret dX1_takesQuestion_116 rfl (by decide) ⟨by rw [bI_tr h108]; rfl, rfl⟩
    · unfold tq
      rw [if_pos (Or.inr (show rd 1 = nI 7 from h19))]
      refine gl_iconst (v := nI 0) dX1_takesQuestion_22 (by decide) ?_
      exact gl_zret dX1_takesQuestion_23 rfl (by decide) ⟨rfl, rfl⟩
end MT

