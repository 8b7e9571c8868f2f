/-! by age: the model -/
set_option maxRecDepth 100000
abbrev BG : Type := Nat × (Nat → Int32)
def bgC (w : Nat → Int32) (r : Nat) (g : Int32) (u : BG) : Nat → BG := it (fun c v => if w (24 + c) = g then (v.1 + 1, upd v.2 (40 * r + v.1) (nI c)) else v) u
def bgA (w : Nat → Int32) (r n : Nat) (f : Nat → Int32) : Nat → BG
  | 0 => (0, f)
  | a + 1 => bgC w r (nI 9 - nI a) (bgA w r n f a) n
theorem cN_or {p q : Nat → Bool} (h : ∀ c, ¬ (p c = true ∧ q c = true)) (n : Nat) : cN p n + cN q n = cN (fun c => p c || q c) n := by
  induction n with
  | zero => rfl
  | succ n ih =>
    rw [show cN p (n + 1) = cN p n + (p n).toNat from rfl, show cN q (n + 1) = cN q n + (q n).toNat from rfl, show cN (fun c => p c || q c) (n + 1) = cN (fun c => p c || q c) n + (p n || q n).toNat from rfl, ← ih]
    have := h n
    cases hp : p n <;> cases hq : q n <;> simp_all <;> omega
theorem bgC_1 (w : Nat → Int32) (r : Nat) (g : Int32) (u : BG) (c : Nat) : (bgC w r g u c).1 = u.1 + cN (fun c => w (24 + c) == g) c := by
  induction c with
  | zero => rfl
  | succ c ih =>
    have e : bgC w r g u (c + 1) = if w (24 + c) = g then ((bgC w r g u c).1 + 1, upd (bgC w r g u c).2 (40 * r + (bgC w r g u c).1) (nI c)) else bgC w r g u c := rfl
    rw [e, show cN (fun c => w (24 + c) == g) (c + 1) = cN (fun c => w (24 + c) == g) c + (w (24 + c) == g).toNat from rfl]
    by_cases h : w (24 + c) = g
    · rw [if_pos h, h]; simp [ih]; omega
    · rw [if_neg h, ih]; simp [h]
/-- how many are at least so old -/
theorem bgA_1 {w : Nat → Int32} {r n : Nat} {f : Nat → Int32} (hg : rg w 24 9) (hn : n ≤ 7) : ∀ a, a ≤ 10 → (bgA w r n f a).1 = cN (fun c => decide (10 - a ≤ ix (w (24 + c)))) n := by
  intro a
  induction a with
  | zero =>
    intro _
    symm
    rw [show (bgA w r n f 0).1 = 0 from rfl]
    rw [cN_eq (q := fun _ => false) (fun c hc => by
      obtain ⟨k, hk, e⟩ := hg c (by omega)
      rw [e, ix_nI (by omega)]
      simp; omega)]
    clear hn
    induction n with
    | zero => rfl
    | succ n ih => rw [show cN (fun _ => false) (n + 1) = cN (fun _ => false) n + 0 from rfl, ih]
  | succ a ih =>
    intro ha
    rw [show bgA w r n f (a + 1) = bgC w r (nI 9 - nI a) (bgA w r n f a) n from rfl, bgC_1, ih (by omega), nI_sub (by omega)]
    rw [cN_or (fun c z => by
      simp only [decide_eq_true_eq, beq_iff_eq] at z
      rw [z.2, ix_nI (by omega)] at z
      omega)]
    refine cN_eq (fun c hc => ?_)
    obtain ⟨k, hk, e⟩ := hg c (by omega)
    rw [e, ix_nI (by omega)]
    have e2 : (nI k == nI (9 - a)) = decide (k = 9 - a) := by
      by_cases z : k = 9 - a
      · rw [z]; simp
      · have : ¬ nI k = nI (9 - a) := fun q => z ((nI_eq (by omega) (by omega)).mp q)
        simp [z, this]
    rw [e2]
    by_cases z1 : 10 - a ≤ k
    · rw [decide_eq_true z1, decide_eq_true (show 10 - (a + 1) ≤ k by omega)]; rfl
    · by_cases z2 : k = 9 - a
      · rw [decide_eq_false z1, decide_eq_true z2, decide_eq_true (show 10 - (a + 1) ≤ k by omega)]; rfl
      · rw [decide_eq_false z1, decide_eq_false z2, decide_eq_false (show ¬ 10 - (a + 1) ≤ k by omega)]; rfl
theorem bg_lt {w : Nat → Int32} {r n a c : Nat} {f : Nat → Int32} (hg : rg w 24 9) (hn : n ≤ 7) (ha : a < 10) (hc : c < n) (h : w (24 + c) = nI 9 - nI a) : (bgC w r (nI 9 - nI a) (bgA w r n f a) c).1 < 7 := by
  have h1 := bgA_1 (r := r) (f := f) hg hn (a + 1) (by omega)
  rw [show bgA w r n f (a + 1) = bgC w r (nI 9 - nI a) (bgA w r n f a) n from rfl, bgC_1] at h1
  have h2 := cN_le (fun c => decide (10 - (a + 1) ≤ ix (w (24 + c)))) n
  rw [bgC_1]
  have h3 := cN_mono (fun c => w (24 + c) == nI 9 - nI a) (show c + 1 ≤ n by omega)
  rw [show cN (fun c => w (24 + c) == nI 9 - nI a) (c + 1) = cN (fun c => w (24 + c) == nI 9 - nI a) c + (w (24 + c) == nI 9 - nI a).toNat from rfl, h] at h3
  simp at h3
  simp at h1 h2
  omega
theorem bg_dec : ∀ a, a < 10 → nI 9 - nI a + Int32.ofInt (-1) = nI 9 - nI (a + 1) := by decide
def sp_byAge (y : MY) (n : Nat) (r : Int32) : Int32 × MY := if inR r 0 5 then (nI n, sA (sA y 19 (upd (y.2.2 19) (ix r) (nI n))) 20 (bgA (y.2.2 23) (ix r) n (fillI (y.2.2 20) (40 * ix r) 0 40) 10).2) else (-1, y)
section MQ
variable (L : Nat) (o : OY) (y : MY) {n m t : Nat}
theorem m_byAge (hL : Lb (y.2.2 23) n m t) (r : Int32) : Ct yX1_byAge gX1_byAge (L + 13) 0 0 [.ref 18, .int r] (mM o y) (RtP o (sp_byAge y n r)) := by
  refine Ct.of rfl rfl rfl rfl rfl ?_
  have h7 := hL.c7
  refine gl_iload_n dX1_byAge_0 rfl ?_
  refine gl_callS (m_isRow L _ _) dX1_byAge_1 q1089 q1090 q75 q1091 rfl hX1_isRow rfl rfl (rmOk (by omega) rfl) ⟨by first | exact Nat.le_refl _ | exact Nat.zero_le _ | decide | (dsimp only [rm]; omega), by first | exact Nat.le_refl _ | exact Nat.zero_le _ | decide | (dsimp only [rm]; omega)⟩ (rt1 ?_)
  refine gl_if_ne (tgt := 9) dX1_byAge_4 (by decide) (fun h4 => ?_) (fun h4 => ?_)
  · have hr := bI_tr h4
    unfold sp_byAge
    rw [if_pos hr]
    obtain ⟨k, -, hk, rfl⟩ := inR_nat (a := 0) (b := 5) (by omega) (by omega) hr
    rw [ix_nI (show k < 100 by omega)]
    have e : sp_row y (nI k) (nI n) = (nI n, sA (sA y 19 (upd (y.2.2 19) k (nI n))) 20 (fillI (y.2.2 20) (40 * k) 0 40)) := by
      unfold sp_row
      rw [if_neg (by simp [hr]; exact nI_le (b := 40) (by omega) (by omega)), if_neg (nI_pos (by omega)), ix_nI (show k < 100 by omega)]
    refine gl_aload_n dX1_byAge_9 rfl ?_
    refine gl_iload_n dX1_byAge_10 rfl ?_
    refine gl_aload_n dX1_byAge_11 rfl ?_
    refine gl_get (k := 4) dX1_byAge_12 rfl (rfl : vwCl[1]? = some (RX1, TX1, 21)) in_X1 (by decide) q1024 rfl ?_
    refine gl_iconst (v := nI 0) dX1_byAge_15 (by decide) ?_
    refine gl_iald (j := 0) dX1_byAge_16 rfl rfl (by omega) ?_
    rw [hL.c]
    refine gl_callV (m_row L o y (nI k) (nI n)) dX1_byAge_17 q1301 q1086 q1087 q75 q1088 rfl hX1_row rfl (rfl : vwCl[1]? = some (RX1, TX1, 21)) rfl rfl (rmOk (by omega) rfl) ⟨by first | exact Nat.le_refl _ | exact Nat.zero_le _ | decide | (dsimp only [rm]; omega), by first | exact Nat.le_refl _ | exact Nat.zero_le _ | decide | (dsimp only [rm]; omega)⟩ ?_
    rw [e]
    refine rtP ?_
    generalize fillI (y.2.2 20) (40 * k) 0 40 = f0
    refine gl_istore_n dX1_byAge_20 rfl rfl ?_
    refine gl_iconst (v := nI 0) dX1_byAge_21 (by decide) ?_
    refine gl_istore_n dX1_byAge_22 rfl rfl ?_
    refine gl_bipush (v := nI 9) dX1_byAge_23 (by decide) ?_
    refine gl_istore dX1_byAge_25 rfl rfl ?_
    refine gl_lcs (lc1 := [some (.ref 18), some (.int (nI k)), some (.int (nI n)), some (.int (nI (bgA (y.2.2 23) k n f0 0).1)), some (.int (nI 9 - nI 0)), none]) rfl ?_
    refine gl_loop (fun a => [some (.ref 18), some (.int (nI k)), some (.int (nI n)), some (.int (nI (bgA (y.2.2 23) k n f0 a).1)), some (.int (nI 9 - nI a)), none]) (fun a => mM o (sA (sA y 19 (upd (y.2.2 19) k (nI n))) 20 (bgA (y.2.2 23) k n f0 a).2)) 10 ?_ ?_
    · intro a ha ih
      refine gl_iload dX1_byAge_27 rfl ?_
      refine gl_if_lt (tgt := 84) dX1_byAge_29 (by decide) (fun h => absurd h ((by rw [nI_sub (by omega)]; exact nI_pos (by omega)))) (fun _ => ?_)
      refine gl_iconst (v := nI 0) dX1_byAge_32 (by decide) ?_
      refine gl_istore dX1_byAge_33 rfl rfl ?_
      refine gl_loop (fun c => [some (.ref 18), some (.int (nI k)), some (.int (nI n)), some (.int (nI (bgC (y.2.2 23) k (nI 9 - nI a) (bgA (y.2.2 23) k n f0 a) c).1)), some (.int (nI 9 - nI a)), some (.int (nI c))]) (fun c => mM o (sA (sA y 19 (upd (y.2.2 19) k (nI n))) 20 (bgC (y.2.2 23) k (nI 9 - nI a) (bgA (y.2.2 23) k n f0 a) c).2)) n ?_ ?_
      · intro c hc ih2
        have es : bgC (y.2.2 23) k (nI 9 - nI a) (bgA (y.2.2 23) k n f0 a) (c + 1) = if y.2.2 23 (24 + c) = nI 9 - nI a then ((bgC (y.2.2 23) k (nI 9 - nI a) (bgA (y.2.2 23) k n f0 a) c).1 + 1, upd (bgC (y.2.2 23) k (nI 9 - nI a) (bgA (y.2.2 23) k n f0 a) c).2 (40 * k + (bgC (y.2.2 23) k (nI 9 - nI a) (bgA (y.2.2 23) k n f0 a) c).1) (nI c)) else bgC (y.2.2 23) k (nI 9 - nI a) (bgA (y.2.2 23) k n f0 a) c := rfl
        have hb := bg_lt (r := k) (f := f0) hL.age h7 ha hc
        rw [es] at ih2
        generalize bgC (y.2.2 23) k (nI 9 - nI a) (bgA (y.2.2 23) k n f0 a) c = v at ih2 hb ⊢
        refine gl_iload dX1_byAge_35 rfl ?_
        refine gl_iload_n dX1_byAge_37 rfl ?_
        refine gl_icmp_ge (tgt := 78) dX1_byAge_38 (by decide) (fun h => absurd h (nI_ge hc (by omega))) (fun _ => ?_)
        refine gl_aload_n dX1_byAge_41 rfl ?_
        refine gl_get (k := 4) dX1_byAge_42 rfl (rfl : vwCl[1]? = some (RX1, TX1, 21)) in_X1 (by decide) q1024 rfl ?_
        refine gl_bipush (v := nI 24) dX1_byAge_45 (by decide) ?_
        refine gl_iload dX1_byAge_47 rfl ?_
        refine gl_iadd dX1_byAge_49 ?_
        refine gl_iald (j := (24 + c)) dX1_byAge_50 rfl (by simp only [nI_add, nI_mul]) (by omega) ?_
        refine gl_iload dX1_byAge_51 rfl ?_
        refine gl_icmp_ne (tgt := 72) dX1_byAge_53 (by decide) (fun h53 => ?_) (fun h53 => ?_)
        · rw [if_neg (show ¬ y.2.2 23 (24 + c) = nI 9 - nI a from h53)] at ih2
          refine gl_iinc (v := (nI (c + 1))) dX1_byAge_72 rfl (nI_1 _) rfl rfl ?_
          refine gl_goto (tgt := 35) dX1_byAge_75 (by decide) ?_
          exact ih2
        · have hv := hb h53
          rw [if_pos (show y.2.2 23 (24 + c) = nI 9 - nI a from h53)] at ih2
          refine gl_aload_n dX1_byAge_56 rfl ?_
          refine gl_get (k := 1) dX1_byAge_57 rfl (rfl : vwCl[1]? = some (RX1, TX1, 21)) in_X1 (by decide) q1021 rfl ?_
          refine gl_bipush (v := nI 40) dX1_byAge_60 (by decide) ?_
          refine gl_iload_n dX1_byAge_62 rfl ?_
          refine gl_imul dX1_byAge_63 ?_
          refine gl_iload_n dX1_byAge_64 rfl ?_
          refine gl_iadd dX1_byAge_65 ?_
          refine gl_iload dX1_byAge_66 rfl ?_
          refine gl_iast (j := ((40 * k) + v.1)) dX1_byAge_68 rfl (by simp only [nI_add, nI_mul]) (by omega) ?_
          refine gl_iinc (v := (nI (v.1 + 1))) dX1_byAge_69 rfl (nI_1 _) rfl rfl ?_
          refine gl_iinc (v := (nI (c + 1))) dX1_byAge_72 rfl (nI_1 _) rfl rfl ?_
          refine gl_goto (tgt := 35) dX1_byAge_75 (by decide) ?_
          exact ih2
      · refine gl_iload dX1_byAge_35 rfl ?_
        refine gl_iload_n dX1_byAge_37 rfl ?_
        refine gl_icmp_ge (tgt := 78) dX1_byAge_38 (by decide) (fun _ => ?_) (fun h => absurd (nI_le (Nat.le_refl _) (by omega)) h)
        refine gl_iinc (v := nI 9 - nI (a + 1)) dX1_byAge_78 rfl (bg_dec a ha) rfl rfl ?_
        refine gl_goto (tgt := 27) dX1_byAge_81 (by decide) ?_
        refine gl_drop 5 ?_
        exact ih
    · generalize bgA (y.2.2 23) k n f0 10 = v
      refine gl_iload dX1_byAge_27 rfl ?_
      refine gl_if_lt (tgt := 84) dX1_byAge_29 (by decide) (fun _ => ?_) (fun h => absurd ((by decide)) h)
      refine gl_iload_n dX1_byAge_84 rfl ?_
      exact gl_iret dX1_byAge_85 rfl ⟨rfl, rfl⟩
  · unfold sp_byAge
    rw [if_neg (by simp [bI_fa h4])]
    refine gl_iconst (v := (-1)) dX1_byAge_7 (by decide) ?_
    exact gl_iret dX1_byAge_8 rfl ⟨rfl, rfl⟩
end MQ

