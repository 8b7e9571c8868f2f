/-! THE MODEL'S WORLD: its cells as one bundle; first readers -/
set_option maxRecDepth 100000
/-- int fields by number, long fields by number, arrays by name -/
abbrev MY : Type := (Nat → Int32) × (Nat → Int64) × (Nat → Nat → Int32)
abbrev OY : Type := Nat × (Nat × (Nat → Int32)) × List MC × (Nat → Option MC)
def mO (y : MY) : List Value := [.ref 19, .ref 20, .ref 21, .ref 22, .ref 23, .ref 24, .ref 25, .int (y.1 7), .long (y.2.1 8), .long (y.2.1 9), .int (y.1 10), .ref 26, .ref 27, .int (y.1 13), .ref 28, .ref 29, .ref 30, .int (y.1 17), .int (y.1 18), .ref 31, .ref 32]
def mC (y : MY) : List MC := [.inr (.inr (1, mO y)), .inl (0, 6, y.2.2 19), .inl (0, 240, y.2.2 20), .inl (0, 4, y.2.2 21), .inl (0, 320, y.2.2 22), .inl (0, 393, y.2.2 23), .inl (0, 1179, y.2.2 24), .inl (2, 3, y.2.2 25), .inl (0, 6, y.2.2 26), .inl (0, 393, y.2.2 27), .inl (0, 7, y.2.2 28), .inl (0, 7, y.2.2 29), .inl (0, 49, y.2.2 30), .inl (0, 128, y.2.2 31), .inl (0, 128, y.2.2 32)]
def mM (o : OY) (y : MY) : Mem := (o.1, o.2.1, o.2.2.1, mC y, o.2.2.2)
/-- an array, an int field, a long field put -/
def sA (y : MY) (n : Nat) (f : Nat → Int32) : MY := (y.1, y.2.1, va_up y.2.2 n f)
def sI (y : MY) (n : Nat) (v : Int32) : MY := (va_up y.1 n v, y.2.1, y.2.2)
def sJ (y : MY) (n : Nat) (v : Int64) : MY := (y.1, va_up y.2.1 n v, y.2.2)
theorem dn {Q : Nat → Prop} (n : Nat) (h : ∀ k, k < n → Q (k + 1) → Q k) (h0 : Q n) : Q 0 := by
  induction n with
  | zero => exact h0
  | succ n ih => exact ih (fun k hk => h k (by omega)) (h n (by omega) h0)
/-- a loop at its head: from each k < n to the next -/
theorem gl_loop {γ : GG} {R : Room} {K : Option Value → Mem → Prop} {cells slots pc : Nat} (lc : Nat → List (Option Value)) (μ : Nat → Mem) (n : Nat) (h : ∀ k, k < n → GL γ R K cells slots pc (lc (k + 1)) [] (μ (k + 1)) → GL γ R K cells slots pc (lc k) [] (μ k)) (h0 : GL γ R K cells slots pc (lc n) [] (μ n)) : GL γ R K cells slots pc (lc 0) [] (μ 0) := dn (Q := fun k => GL γ R K cells slots pc (lc k) [] (μ k)) n h h0
theorem nI_mul (a b : Nat) : nI a * nI b = nI (a * b) := by
  show Int32.ofNat a * Int32.ofNat b = Int32.ofNat (a * b)
  exact (Int32.ofNat_mul a b).symm
theorem m_tell (L : Nat) (o : OY) (y : MY) (v : Int32) : Ct yX1_tell gX1_tell (L + 10) 0 0 [.ref 18, .int v] (mM o y) (Rt (some (.int (nI 1))) (mM o (sI y 7 v))) := by
  refine Ct.of rfl rfl rfl rfl rfl ?_
  refine gl_aload_n dX1_tell_0 rfl ?_
  refine gl_iload_n dX1_tell_1 rfl ?_
  refine gl_put (k := 7) dX1_tell_2 rfl (rfl : vwCl[1]? = some (RX1, TX1, 21)) in_X1 tyX1 tyX1_ok nmX1 (by decide) rfl q1027 (fun _ _ => ⟨rfl, rfl⟩) rfl ?_
  refine gl_iconst (v := nI 1) dX1_tell_5 (by decide) ?_
  exact gl_iret dX1_tell_6 rfl ⟨rfl, rfl⟩
theorem m_found (L : Nat) (o : OY) (y : MY) (f : Nat) (hf : f < 6) : Ct yX1_found gX1_found (L + 10) 0 0 [.ref 18, .int (nI f)] (mM o y) (Rt (some (.int (-3))) (mM o (sA (sI y 10 (nI f)) 26 (upd (y.2.2 26) f (y.2.2 26 f + 1))))) := by
  refine Ct.of rfl rfl rfl rfl rfl ?_
  refine gl_aload_n dX1_found_0 rfl ?_
  refine gl_iload_n dX1_found_1 rfl ?_
  refine gl_put (k := 10) dX1_found_2 rfl (rfl : vwCl[1]? = some (RX1, TX1, 21)) in_X1 tyX1 tyX1_ok nmX1 (by decide) rfl q1030 (fun _ _ => ⟨rfl, rfl⟩) rfl ?_
  refine gl_mem (μ1 := mM o (sI y 10 (nI f))) rfl ?_
  refine gl_aload_n dX1_found_5 rfl ?_
  refine gl_get (k := 11) dX1_found_6 rfl (rfl : vwCl[1]? = some (RX1, TX1, 21)) in_X1 (by decide) q1031 rfl ?_
  refine gl_iload_n dX1_found_9 rfl ?_
  refine gl_dup2 dX1_found_10 rfl rfl ?_
  refine gl_iald (j := f) dX1_found_11 rfl rfl (by omega) ?_
  refine gl_iconst (v := nI 1) dX1_found_12 (by decide) ?_
  refine gl_iadd dX1_found_13 ?_
  refine gl_iast (j := f) dX1_found_14 rfl rfl (by omega) ?_
  refine gl_bipush (v := (-3)) dX1_found_15 (by decide) ?_
  exact gl_iret dX1_found_17 rfl ⟨rfl, rfl⟩
/-- what answers what is in order: n cards, m questions -/
def Bv (f : Nat → Int32) (n m : Nat) : Prop := (∀ q, q < m → f q = -9 ∨ ∃ c, c < n ∧ f q = nI c) ∧ ∀ q p, q < m → p < m → f q ≠ -9 → f q = f p → q = p
def rg (w : Nat → Int32) (a b : Nat) : Prop := ∀ c, c < 7 → ∃ k, k ≤ b ∧ w (a + c) = nI k
/-- a library in order: n cards, m questions, t takings -/
def Lb (w : Nat → Int32) (n m t : Nat) : Prop := (w 0 = nI n ∧ n ≤ 7) ∧ (w 1 = nI m ∧ m ≤ 7) ∧ (w 2 = nI t ∧ t ≤ 40) ∧ rg w 3 5 ∧ rg w 10 9 ∧ rg w 17 3 ∧ rg w 24 9 ∧ rg w 31 5 ∧ rg w 38 9 ∧ rg w 45 9 ∧ rg w 52 9 ∧ (∀ q, q < 7 → w (59 + q) = -9 ∨ ∃ k, k ≤ 9 ∧ w (59 + q) = nI k) ∧ Bv (fun q => w (66 + q)) n m ∧ ∀ j, j < t → Bv (fun q => w (113 + 7 * j + q)) n m
section LbU
variable {w : Nat → Int32} {n m t : Nat}
theorem Lb.c (h : Lb w n m t) : w 0 = nI n := h.1.1
theorem Lb.c7 (h : Lb w n m t) : n ≤ 7 := h.1.2
theorem Lb.q (h : Lb w n m t) : w 1 = nI m := h.2.1.1
theorem Lb.q7 (h : Lb w n m t) : m ≤ 7 := h.2.1.2
theorem Lb.tk (h : Lb w n m t) : w 2 = nI t := h.2.2.1.1
theorem Lb.t40 (h : Lb w n m t) : t ≤ 40 := h.2.2.1.2
theorem Lb.kind (h : Lb w n m t) : rg w 3 5 := h.2.2.2.1
theorem Lb.says (h : Lb w n m t) : rg w 10 9 := h.2.2.2.2.1
theorem Lb.shelf (h : Lb w n m t) : rg w 17 3 := h.2.2.2.2.2.1
theorem Lb.age (h : Lb w n m t) : rg w 24 9 := h.2.2.2.2.2.2.1
theorem Lb.asks (h : Lb w n m t) : rg w 31 5 := h.2.2.2.2.2.2.2.1
theorem Lb.from_ (h : Lb w n m t) : rg w 38 9 := h.2.2.2.2.2.2.2.2.1
theorem Lb.to_ (h : Lb w n m t) : rg w 45 9 := h.2.2.2.2.2.2.2.2.2.1
theorem Lb.wish (h : Lb w n m t) : rg w 52 9 := h.2.2.2.2.2.2.2.2.2.2.1
theorem Lb.truth (h : Lb w n m t) : ∀ q, q < 7 → w (59 + q) = -9 ∨ ∃ k, k ≤ 9 ∧ w (59 + q) = nI k := h.2.2.2.2.2.2.2.2.2.2.2.1
theorem Lb.by_ (h : Lb w n m t) : Bv (fun q => w (66 + q)) n m := h.2.2.2.2.2.2.2.2.2.2.2.2.1
theorem Lb.ahead (h : Lb w n m t) : ∀ j, j < t → Bv (fun q => w (113 + 7 * j + q)) n m := h.2.2.2.2.2.2.2.2.2.2.2.2.2
end LbU
/-- what a card is, what it means, what it fits -/
def isOf (own kind : Int32) : Bool := kind == 0 || own == kind || (kind == 1 && own == 3) || (kind == 2 && own == 5)
def mnk (k s a : Int32) : Int32 := if k = 1 then (if s < 5 then 0 else 1) else if k = 3 then 0 else if k = 5 then (s + 1) % 10 else if k = 4 then (s + a) % 10 else s
def mns (w : Nat → Int32) (c : Nat) : Int32 := mnk (w (3 + c)) (w (10 + c)) (w (24 + c))
def suB (w : Nat → Int32) (c : Nat) (k f t : Int32) : Bool := isOf (w (3 + c)) k && inR (mns w c) f t
def fitB (w : Nat → Int32) (q c : Nat) : Bool := suB w c (w (31 + q)) (w (38 + q)) (w (45 + q))
/-- which question of the first k the card answers, the last one -/
def ansL (w : Nat → Int32) (c : Int32) : Nat → Int32
  | 0 => -9
  | k + 1 => if w (66 + k) = c then nI k else ansL w c k
theorem m_isOf (L : Nat) (μ : Mem) (a k : Int32) : Ct yX1_isOf gX1_isOf (L + 10) 0 0 [.int a, .int k] μ (Rt (some (.int (bI (isOf a k)))) μ) := by
  refine Ct.of rfl rfl rfl rfl rfl ?_
  refine gl_iload_n dX1_isOf_0 rfl ?_
  refine gl_if_eq (tgt := 29) dX1_isOf_1 (by decide) (fun h1 => ?_) (fun h1 => ?_)
  · refine gl_iconst (v := nI 1) dX1_isOf_29 (by decide) ?_
    refine gl_goto (tgt := 34) dX1_isOf_30 (by decide) ?_
    exact gl_zret dX1_isOf_34 rfl (by decide) ⟨by simp_all [isOf, bI, nI], rfl⟩
  · refine gl_iload_n dX1_isOf_4 rfl ?_
    refine gl_iload_n dX1_isOf_5 rfl ?_
    refine gl_icmp_eq (tgt := 29) dX1_isOf_6 (by decide) (fun h6 => ?_) (fun h6 => ?_)
    · refine gl_iconst (v := nI 1) dX1_isOf_29 (by decide) ?_
      refine gl_goto (tgt := 34) dX1_isOf_30 (by decide) ?_
      exact gl_zret dX1_isOf_34 rfl (by decide) ⟨by simp_all [isOf, bI, nI], rfl⟩
    · refine gl_iload_n dX1_isOf_9 rfl ?_
      refine gl_iconst (v := nI 1) dX1_isOf_10 (by decide) ?_
      refine gl_icmp_ne (tgt := 19) dX1_isOf_11 (by decide) (fun h11 => ?_) (fun h11 => ?_)
      · refine gl_iload_n dX1_isOf_19 rfl ?_
        refine gl_iconst (v := nI 2) dX1_isOf_20 (by decide) ?_
        refine gl_icmp_ne (tgt := 33) dX1_isOf_21 (by decide) (fun h21 => ?_) (fun h21 => ?_)
        · refine gl_iconst (v := nI 0) dX1_isOf_33 (by decide) ?_
          exact gl_zret dX1_isOf_34 rfl (by decide) ⟨by simp_all [isOf, bI, nI], rfl⟩
        · refine gl_iload_n dX1_isOf_24 rfl ?_
          refine gl_iconst (v := nI 5) dX1_isOf_25 (by decide) ?_
          refine gl_icmp_ne (tgt := 33) dX1_isOf_26 (by decide) (fun h26 => ?_) (fun h26 => ?_)
          · refine gl_iconst (v := nI 0) dX1_isOf_33 (by decide) ?_
            exact gl_zret dX1_isOf_34 rfl (by decide) ⟨by simp_all [isOf, bI, nI], rfl⟩
          · refine gl_iconst (v := nI 1) dX1_isOf_29 (by decide) ?_
            refine gl_goto (tgt := 34) dX1_isOf_30 (by decide) ?_
            exact gl_zret dX1_isOf_34 rfl (by decide) ⟨by simp_all [isOf, bI, nI], rfl⟩
      · refine gl_iload_n dX1_isOf_14 rfl ?_
        refine gl_iconst (v := nI 3) dX1_isOf_15 (by decide) ?_
        refine gl_icmp_eq (tgt := 29) dX1_isOf_16 (by decide) (fun h16 => ?_) (fun h16 => ?_)
        · refine gl_iconst (v := nI 1) dX1_isOf_29 (by decide) ?_
          refine gl_goto (tgt := 34) dX1_isOf_30 (by decide) ?_
          exact gl_zret dX1_isOf_34 rfl (by decide) ⟨by simp_all [isOf, bI, nI], rfl⟩
        · refine gl_iload_n dX1_isOf_19 rfl ?_
          refine gl_iconst (v := nI 2) dX1_isOf_20 (by decide) ?_
          refine gl_icmp_ne (tgt := 33) dX1_isOf_21 (by decide) (fun h21 => ?_) (fun h21 => ?_)
          · refine gl_iconst (v := nI 0) dX1_isOf_33 (by decide) ?_
            exact gl_zret dX1_isOf_34 rfl (by decide) ⟨by simp_all [isOf, bI, nI], rfl⟩
          · refine gl_iload_n dX1_isOf_24 rfl ?_
            refine gl_iconst (v := nI 5) dX1_isOf_25 (by decide) ?_
            refine gl_icmp_ne (tgt := 33) dX1_isOf_26 (by decide) (fun h26 => ?_) (fun h26 => ?_)
            · refine gl_iconst (v := nI 0) dX1_isOf_33 (by decide) ?_
              exact gl_zret dX1_isOf_34 rfl (by decide) ⟨by simp_all [isOf, bI, nI], rfl⟩
            · refine gl_iconst (v := nI 1) dX1_isOf_29 (by decide) ?_
              refine gl_goto (tgt := 34) dX1_isOf_30 (by decide) ?_
              exact gl_zret dX1_isOf_34 rfl (by decide) ⟨by simp_all [isOf, bI, nI], rfl⟩
theorem m_isCard (L : Nat) (o : OY) (y : MY) (v : Int32) : Ct yX1_isCard gX1_isCard (L + 11) 0 0 [.ref 18, .int v] (mM o y) (Rt (some (.int (bI (inR v 0 (y.2.2 23 0 - 1))))) (mM o y)) := by
  refine Ct.of rfl rfl rfl rfl rfl ?_
  refine gl_iload_n dX1_isCard_0 rfl ?_
  refine gl_i2l dX1_isCard_1 ?_
  refine gl_lconst (v := 0) dX1_isCard_2 (by decide) ?_
  refine gl_aload_n dX1_isCard_3 rfl ?_
  refine gl_get (k := 4) dX1_isCard_4 rfl (rfl : vwCl[1]? = some (RX1, TX1, 21)) in_X1 (by decide) q1024 rfl ?_
  refine gl_iconst (v := nI 0) dX1_isCard_7 (by decide) ?_
  refine gl_iald (j := 0) dX1_isCard_8 rfl rfl (by omega) ?_
  refine gl_iconst (v := nI 1) dX1_isCard_9 (by decide) ?_
  refine gl_isub dX1_isCard_10 ?_
  refine gl_i2l dX1_isCard_11 ?_
  refine gl_callS (m_in_i L (mM o y) v 0 (y.2.2 23 0 - 1) (by decide) rfl) dX1_isCard_12 q1093 q1094 q75 q1095 rfl hX1_in rfl rfl (rmOk (by omega) rfl) ⟨by first | exact Nat.le_refl _ | exact Nat.zero_le _ | decide | (dsimp only [rm]; omega), by first | exact Nat.le_refl _ | exact Nat.zero_le _ | decide | (dsimp only [rm]; omega)⟩ (rt1 ?_)
  exact gl_zret dX1_isCard_15 rfl (bI_1 _) ⟨rfl, rfl⟩
theorem m_isQuestion (L : Nat) (o : OY) (y : MY) (v : Int32) : Ct yX1_isQuestion gX1_isQuestion (L + 11) 0 0 [.ref 18, .int v] (mM o y) (Rt (some (.int (bI (inR v 0 (y.2.2 23 1 - 1))))) (mM o y)) := by
  refine Ct.of rfl rfl rfl rfl rfl ?_
  refine gl_iload_n dX1_isQuestion_0 rfl ?_
  refine gl_i2l dX1_isQuestion_1 ?_
  refine gl_lconst (v := 0) dX1_isQuestion_2 (by decide) ?_
  refine gl_aload_n dX1_isQuestion_3 rfl ?_
  refine gl_get (k := 4) dX1_isQuestion_4 rfl (rfl : vwCl[1]? = some (RX1, TX1, 21)) in_X1 (by decide) q1024 rfl ?_
  refine gl_iconst (v := nI 1) dX1_isQuestion_7 (by decide) ?_
  refine gl_iald (j := 1) dX1_isQuestion_8 rfl rfl (by omega) ?_
  refine gl_iconst (v := nI 1) dX1_isQuestion_9 (by decide) ?_
  refine gl_isub dX1_isQuestion_10 ?_
  refine gl_i2l dX1_isQuestion_11 ?_
  refine gl_callS (m_in_i L (mM o y) v 0 (y.2.2 23 1 - 1) (by decide) rfl) dX1_isQuestion_12 q1093 q1094 q75 q1095 rfl hX1_in rfl rfl (rmOk (by omega) rfl) ⟨by first | exact Nat.le_refl _ | exact Nat.zero_le _ | decide | (dsimp only [rm]; omega), by first | exact Nat.le_refl _ | exact Nat.zero_le _ | decide | (dsimp only [rm]; omega)⟩ (rt1 ?_)
  exact gl_zret dX1_isQuestion_15 rfl (bI_1 _) ⟨rfl, rfl⟩
theorem m_means (L : Nat) (o : OY) (y : MY) (c : Nat) (hc : c < 7) (hk : rg (y.2.2 23) 3 5) : Ct yX1_means gX1_means (L + 10) 0 0 [.ref 18, .int (nI c)] (mM o y) (Rt (some (.int (mns (y.2.2 23) c))) (mM o y)) := by
  refine Ct.of rfl rfl rfl rfl rfl ?_
  refine gl_aload_n dX1_means_0 rfl ?_
  refine gl_get (k := 4) dX1_means_1 rfl (rfl : vwCl[1]? = some (RX1, TX1, 21)) in_X1 (by decide) q1024 rfl ?_
  refine gl_bipush (v := nI 10) dX1_means_4 (by decide) ?_
  refine gl_iload_n dX1_means_6 rfl ?_
  refine gl_iadd dX1_means_7 ?_
  refine gl_iald (j := (10 + c)) dX1_means_8 rfl (by simp only [nI_add, nI_mul]) (by omega) ?_
  refine gl_istore_n dX1_means_9 rfl rfl ?_
  refine gl_aload_n dX1_means_10 rfl ?_
  refine gl_get (k := 4) dX1_means_11 rfl (rfl : vwCl[1]? = some (RX1, TX1, 21)) in_X1 (by decide) q1024 rfl ?_
  refine gl_iconst (v := nI 3) dX1_means_14 (by decide) ?_
  refine gl_iload_n dX1_means_15 rfl ?_
  refine gl_iadd dX1_means_16 ?_
  refine gl_iald (j := (3 + c)) dX1_means_17 rfl (by simp only [nI_add, nI_mul]) (by omega) ?_
  obtain ⟨k, hk, e⟩ := hk c hc
  unfold mns mnk
  rw [e]
  match k, hk with
  | 0, _ =>
    refine gl_tableOut (tgt := 87) dX1_means_18 (by decide) (by decide) ?_
    refine gl_iload_n dX1_means_87 rfl ?_
    exact gl_iret dX1_means_88 rfl ⟨rfl, rfl⟩
  | 1, _ =>
    refine gl_tableIn (tgt := 52) dX1_means_18 (by decide) (by decide) rfl (by decide) ?_
    refine gl_iload_n dX1_means_52 rfl ?_
    refine gl_iconst (v := nI 5) dX1_means_53 (by decide) ?_
    refine gl_icmp_ge (tgt := 61) dX1_means_54 (by decide) (fun h54 => ?_) (fun h54 => ?_)
    · refine gl_iconst (v := nI 1) dX1_means_61 (by decide) ?_
      exact gl_iret dX1_means_62 rfl ⟨by simp_all [nI], rfl⟩
    · refine gl_iconst (v := nI 0) dX1_means_57 (by decide) ?_
      refine gl_goto (tgt := 62) dX1_means_58 (by decide) ?_
      exact gl_iret dX1_means_62 rfl ⟨by simp_all [nI], rfl⟩
  | 2, _ =>
    refine gl_tableIn (tgt := 87) dX1_means_18 (by decide) (by decide) rfl (by decide) ?_
    refine gl_iload_n dX1_means_87 rfl ?_
    exact gl_iret dX1_means_88 rfl ⟨rfl, rfl⟩
  | 3, _ =>
    refine gl_tableIn (tgt := 63) dX1_means_18 (by decide) (by decide) rfl (by decide) ?_
    refine gl_iconst (v := nI 0) dX1_means_63 (by decide) ?_
    exact gl_iret dX1_means_64 rfl ⟨rfl, rfl⟩
  | 4, _ =>
    refine gl_tableIn (tgt := 72) dX1_means_18 (by decide) (by decide) rfl (by decide) ?_
    refine gl_iload_n dX1_means_72 rfl ?_
    refine gl_aload_n dX1_means_73 rfl ?_
    refine gl_get (k := 4) dX1_means_74 rfl (rfl : vwCl[1]? = some (RX1, TX1, 21)) in_X1 (by decide) q1024 rfl ?_
    refine gl_bipush (v := nI 24) dX1_means_77 (by decide) ?_
    refine gl_iload_n dX1_means_79 rfl ?_
    refine gl_iadd dX1_means_80 ?_
    refine gl_iald (j := (24 + c)) dX1_means_81 rfl (by simp only [nI_add, nI_mul]) (by omega) ?_
    refine gl_iadd dX1_means_82 ?_
    refine gl_bipush (v := nI 10) dX1_means_83 (by decide) ?_
    refine gl_irem dX1_means_85 (by decide) ?_
    exact gl_iret dX1_means_86 rfl ⟨rfl, rfl⟩
  | 5, _ =>
    refine gl_tableIn (tgt := 65) dX1_means_18 (by decide) (by decide) rfl (by decide) ?_
    refine gl_iload_n dX1_means_65 rfl ?_
    refine gl_iconst (v := nI 1) dX1_means_66 (by decide) ?_
    refine gl_iadd dX1_means_67 ?_
    refine gl_bipush (v := nI 10) dX1_means_68 (by decide) ?_
    refine gl_irem dX1_means_70 (by decide) ?_
    exact gl_iret dX1_means_71 rfl ⟨rfl, rfl⟩
theorem m_answers (L : Nat) (o : OY) (y : MY) (m : Nat) (c : Int32) (hm : y.2.2 23 1 = nI m) (h7 : m ≤ 7) : Ct yX1_answers gX1_answers (L + 10) 0 0 [.ref 18, .int c] (mM o y) (Rt (some (.int (ansL (y.2.2 23) c m))) (mM o y)) := by
  refine Ct.of rfl rfl rfl rfl rfl ?_
  refine gl_bipush (v := (-9)) dX1_answers_0 (by decide) ?_
  refine gl_istore_n dX1_answers_2 rfl rfl ?_
  refine gl_iconst (v := nI 0) dX1_answers_3 (by decide) ?_
  refine gl_istore_n dX1_answers_4 rfl rfl ?_
  refine gl_loop (fun k => [some (.ref 18), some (.int c), some (.int (ansL (y.2.2 23) c k)), some (.int (nI k))]) (fun _ => mM o y) m ?_ ?_
  · intro k hk ih
    refine gl_iload_n dX1_answers_5 rfl ?_
    refine gl_aload_n dX1_answers_6 rfl ?_
    refine gl_get (k := 4) dX1_answers_7 rfl (rfl : vwCl[1]? = some (RX1, TX1, 21)) in_X1 (by decide) q1024 rfl ?_
    refine gl_iconst (v := nI 1) dX1_answers_10 (by decide) ?_
    refine gl_iald (j := 1) dX1_answers_11 rfl rfl (by omega) ?_
    refine gl_icmp_ge (tgt := 40) dX1_answers_12 (by decide) (fun h => absurd h ((by rw [hm]; exact nI_ge hk (by omega)))) (fun _ => ?_)
    refine gl_aload_n dX1_answers_15 rfl ?_
    refine gl_get (k := 4) dX1_answers_16 rfl (rfl : vwCl[1]? = some (RX1, TX1, 21)) in_X1 (by decide) q1024 rfl ?_
    refine gl_bipush (v := nI 66) dX1_answers_19 (by decide) ?_
    refine gl_iload_n dX1_answers_21 rfl ?_
    refine gl_iadd dX1_answers_22 ?_
    refine gl_iald (j := (66 + k)) dX1_answers_23 rfl (by simp only [nI_add, nI_mul]) (by omega) ?_
    refine gl_iload_n dX1_answers_24 rfl ?_
    refine gl_icmp_ne (tgt := 32) dX1_answers_25 (by decide) (fun h25 => ?_) (fun h25 => ?_)
    · refine gl_iload_n dX1_answers_32 rfl ?_
      refine gl_istore_n dX1_answers_33 rfl rfl ?_
      refine gl_iinc (v := (nI (k + 1))) dX1_answers_34 rfl (nI_1 _) rfl rfl ?_
      refine gl_goto (tgt := 5) dX1_answers_37 (by decide) ?_
      exact cast (by simp [ansL, *]) ih
    · refine gl_iload_n dX1_answers_28 rfl ?_
      refine gl_goto (tgt := 33) dX1_answers_29 (by decide) ?_
      refine gl_istore_n dX1_answers_33 rfl rfl ?_
      refine gl_iinc (v := (nI (k + 1))) dX1_answers_34 rfl (nI_1 _) rfl rfl ?_
      refine gl_goto (tgt := 5) dX1_answers_37 (by decide) ?_
      exact cast (by simp [ansL, *]) ih
  · refine gl_iload_n dX1_answers_5 rfl ?_
    refine gl_aload_n dX1_answers_6 rfl ?_
    refine gl_get (k := 4) dX1_answers_7 rfl (rfl : vwCl[1]? = some (RX1, TX1, 21)) in_X1 (by decide) q1024 rfl ?_
    refine gl_iconst (v := nI 1) dX1_answers_10 (by decide) ?_
    refine gl_iald (j := 1) dX1_answers_11 rfl rfl (by omega) ?_
    refine gl_icmp_ge (tgt := 40) dX1_answers_12 (by decide) (fun _ => ?_) (fun h => absurd ((by rw [hm]; exact nI_le (Nat.le_refl _) (by omega))) h)
    refine gl_iload_n dX1_answers_40 rfl ?_
    exact gl_iret dX1_answers_41 rfl ⟨rfl, rfl⟩

