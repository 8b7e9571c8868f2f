/-! the component: what is left; two libraries beside each other -/
set_option maxRecDepth 100000
def lfV (w g : Nat → Int32) (k : Nat) : Bool := inR (g (2 * k)) 0 (w 1 - 1) && inR (g (2 * k + 1)) 0 1
def lfG (w g : Nat → Int32) (n : Nat) (set : Int32) : Nat → Int32
  | 0 => set
  | k + 1 => lfG w g n set k &&& (if g (2 * k + 1) = nI 1 then fsI w n (ix (g (2 * k))) else fsI w n (ix (g (2 * k))) ^^^ (-1))
theorem lf_no {w g : Nat → Int32} {n : Nat} {j : Nat} (hj : lfV w g j = false) : ∀ (f k : Nat) (set : Int32), k ≤ j → j < k + f → lfF w g n f k set = none := by
  intro f
  induction f with
  | zero => intro k set h1 h2; omega
  | succ f ih =>
    intro k set h1 h2
    unfold lfF
    by_cases e : k = j
    · subst e
      rw [if_neg (by unfold lfV at hj; rw [hj]; decide)]
    · split
      · exact ih (k + 1) _ (by omega) (by omega)
      · rfl
theorem lf_yes {w g : Nat → Int32} {n : Nat} {set0 : Int32} : ∀ (f k : Nat), (∀ j, j < k + f → lfV w g j = true) → lfF w g n f k (lfG w g n set0 k) = some (lfG w g n set0 (k + f)) := by
  intro f
  induction f with
  | zero => intro k _; rfl
  | succ f ih =>
    intro k h
    unfold lfF
    rw [if_pos (show (inR (g (2 * k)) 0 (w 1 - 1) && inR (g (2 * k + 1)) 0 1) = true from h k (by omega)), show k + (f + 1) = k + 1 + f by omega]
    exact ih (k + 1) (fun j hj => h j (by omega))
section XI
variable (L : Nat) {o : OX} {τ : Nat → Nat} {x : XY} {y : MY} {n m t : Nat}
def aaP (o : OX) (τ : Nat → Nat) (x : XY) (y : MY) (n k : Nat) : Option Value → Mem → Prop := fun v μ => (v = some (.int (nI 0)) ∧ μ = mX o x ∧ ∃ p s f, x.2.2.2.1 3 k = some p ∧ Own o τ p k (.inl (0, s, f)) ∧ y.2.2 19 k = nI s ∧ s ≤ 40 ∧ (∀ i, i < s → f i = y.2.2 20 (40 * k + i)) ∧ s % 2 = 0 ∧ ∀ j, j < s / 2 → lfV (y.2.2 23) (rwF y k) j = true) ∨ (v = some (.int (-3)) ∧ ∃ ff, ff < 6 ∧ μ = mX o (xfnd x ff) ∧ sp_left y n (nI k) = sfnd y ff)
theorem x_askedA (hV : RV o τ x y n m t) (k : Nat) (hk : k ≤ 5) : Ct yX0_askedAnswers gX0_askedAnswers (L + 12) 0 0 [.ref 1, .int (nI k)] (mX o x) (aaP o τ x y n k) := by
  refine Ct.of rfl rfl rfl rfl rfl ?_
  have h7q := hV.lb.q7
  have hr : inR (nI k) 0 5 = true := inR_k (n := 6) (by omega) (by omega)
  have esp : sp_left y n (nI k) = if y.2.2 19 k < 0 then sfnd y 1 else if ix (y.2.2 19 k) % 2 = 1 then sfnd y 5 else lfO y (lfF (y.2.2 23) (rwF y k) n (ix (y.2.2 19 k) / 2) 0 (allC n)) := by
    unfold sp_left
    rw [if_pos hr, ix_nI (show k < 100 by omega)]
  rcases hV.row k (by omega) with ⟨e, es⟩ | ⟨p, s, f, e, hO, es, hs, hf⟩
  · rw [es, if_pos (by decide)] at esp
    refine gl_aload_n dX0_askedAnswers_0 rfl ?_
    refine gl_get (k := 5) dX0_askedAnswers_1 rfl (rfl : vwCl[0]? = some (RX0, TX0, 30)) in_X0 (by decide) q117 rfl ?_
    refine gl_iload_n dX0_askedAnswers_4 rfl ?_
    refine gl_aald (j := k) dX0_askedAnswers_5 rfl rfl (by omega) e ?_
    refine gl_ifnonnullN dX0_askedAnswers_6 ?_
    refine gl_aload_n dX0_askedAnswers_9 rfl ?_
    refine gl_iconst (v := nI 1) dX0_askedAnswers_10 (by decide) ?_
    refine gl_callV (x_found L o x 1 (by omega)) dX0_askedAnswers_11 q301 q303 qs2 q74 q304 rfl hX0_found rfl (rfl : vwCl[0]? = some (RX0, TX0, 30)) rfl rfl (rmOk (by omega) rfl) ⟨by first | exact Nat.le_refl _ | exact Nat.zero_le _ | decide | (dsimp only [rm]; omega), by first | exact Nat.le_refl _ | exact Nat.zero_le _ | decide | (dsimp only [rm]; omega)⟩ (rt1 ?_)
    exact gl_iret dX0_askedAnswers_14 rfl (Or.inr ⟨rfl, 1, by omega, rfl, esp⟩) (hc := by first | exact Nat.zero_le _ | (dsimp only [rm]; omega)) (hs := by first | exact Nat.zero_le _ | (dsimp only [rm]; omega))
  · rw [es, if_neg (nI_pos (by omega)), ix_nI (show s < 100 by omega)] at esp
    refine gl_aload_n dX0_askedAnswers_0 rfl ?_
    refine gl_get (k := 5) dX0_askedAnswers_1 rfl (rfl : vwCl[0]? = some (RX0, TX0, 30)) in_X0 (by decide) q117 rfl ?_
    refine gl_iload_n dX0_askedAnswers_4 rfl ?_
    refine gl_aald (j := k) dX0_askedAnswers_5 rfl rfl (by omega) e ?_
    refine gl_ifnonnull (tgt := 15) dX0_askedAnswers_6 (by decide) ?_
    refine gl_aload_n dX0_askedAnswers_15 rfl ?_
    refine gl_get (k := 5) dX0_askedAnswers_16 rfl (rfl : vwCl[0]? = some (RX0, TX0, 30)) in_X0 (by decide) q117 rfl ?_
    refine gl_iload_n dX0_askedAnswers_19 rfl ?_
    refine gl_aald (j := k) dX0_askedAnswers_20 rfl rfl (by omega) e ?_
    refine gl_astore_n dX0_askedAnswers_21 rfl rfl ?_
    refine gl_aload_n dX0_askedAnswers_22 rfl ?_
    refine gl_alen dX0_askedAnswers_23 hO.lk ?_
    refine gl_iconst (v := nI 2) dX0_askedAnswers_24 (by decide) ?_
    refine gl_irem dX0_askedAnswers_25 (by decide) ?_
    rw [nI_rem (by omega) (by omega)]
    by_cases h2 : s % 2 = 0
    · rw [if_neg (by omega)] at esp
      refine gl_if_eq (tgt := 35) dX0_askedAnswers_26 (by decide) (fun _ => ?_) (fun h => absurd ((by rw [h2]; rfl)) h)
      refine gl_iconst (v := nI 0) dX0_askedAnswers_35 (by decide) ?_
      refine gl_istore_n dX0_askedAnswers_36 rfl rfl ?_
      refine dn (Q := fun j => (∀ i, i < j → lfV (y.2.2 23) (rwF y k) i = true) → GL gX0_askedAnswers (rm (L + 12) 0 0) (aaP o τ x y n k) 0 0 37 [some (.ref 1), some (.int (nI k)), some (.ref p), some (.int (nI (2 * j)))] [] (mX o x)) (s / 2) ?_ ?_ (fun j h => absurd h (Nat.not_lt_zero j))
      · intro j hj ih hall
        have a1 := hf (2 * j) (by omega)
        have a2 := hf (2 * j + 1) (by omega)
        have hno : lfV (y.2.2 23) (rwF y k) j = false → sp_left y n (nI k) = sfnd y 3 := fun z => by
          rw [esp, lf_no z (s / 2) 0 _ (by omega) (by omega)]
          rfl
        refine gl_iload_n dX0_askedAnswers_37 rfl ?_
        refine gl_aload_n dX0_askedAnswers_38 rfl ?_
        refine gl_alen dX0_askedAnswers_39 hO.lk ?_
        refine gl_icmp_ge (tgt := 78) dX0_askedAnswers_40 (by decide) (fun h => absurd h (nI_ge (by omega) (by omega))) (fun _ => ?_)
        refine gl_aload_n dX0_askedAnswers_43 rfl ?_
        refine gl_aload_n dX0_askedAnswers_44 rfl ?_
        refine gl_iload_n dX0_askedAnswers_45 rfl ?_
        refine gl_iald (j := (2*j)) dX0_askedAnswers_46 hO.lk rfl (by omega) ?_
        rw [a1]
        refine gl_callV (x_isQuestion L o x hV.rl _) dX0_askedAnswers_47 q592 q594 qs12 q74 q595 rfl hX0_isQuestion rfl (rfl : vwCl[0]? = some (RX0, TX0, 30)) rfl rfl (rmOk (by omega) rfl) ⟨by first | exact Nat.le_refl _ | exact Nat.zero_le _ | decide | (dsimp only [rm]; omega), by first | exact Nat.le_refl _ | exact Nat.zero_le _ | decide | (dsimp only [rm]; omega)⟩ (rt1 ?_)
        refine gl_if_eq (tgt := 66) dX0_askedAnswers_50 (by decide) (fun h50 => ?_) (fun h50 => ?_)
        · have hz : lfV (y.2.2 23) (rwF y k) j = false := by
            unfold lfV rwF
            rw [hV.lb.q, bI_fa h50]
            rfl
          refine gl_aload_n dX0_askedAnswers_66 rfl ?_
          refine gl_iconst (v := nI 3) dX0_askedAnswers_67 (by decide) ?_
          refine gl_callV (x_found L o x 3 (by omega)) dX0_askedAnswers_68 q301 q303 qs2 q74 q304 rfl hX0_found rfl (rfl : vwCl[0]? = some (RX0, TX0, 30)) rfl rfl (rmOk (by omega) rfl) ⟨by first | exact Nat.le_refl _ | exact Nat.zero_le _ | decide | (dsimp only [rm]; omega), by first | exact Nat.le_refl _ | exact Nat.zero_le _ | decide | (dsimp only [rm]; omega)⟩ (rt1 ?_)
          exact gl_iret dX0_askedAnswers_71 rfl (Or.inr ⟨rfl, 3, by omega, rfl, hno hz⟩) (hc := by first | exact Nat.zero_le _ | (dsimp only [rm]; omega)) (hs := by first | exact Nat.zero_le _ | (dsimp only [rm]; omega))
        · have hq := bI_tr h50
          refine gl_aload_n dX0_askedAnswers_53 rfl ?_
          refine gl_iload_n dX0_askedAnswers_54 rfl ?_
          refine gl_iconst (v := nI 1) dX0_askedAnswers_55 (by decide) ?_
          refine gl_iadd dX0_askedAnswers_56 ?_
          refine gl_iald (j := (2*j+1)) dX0_askedAnswers_57 hO.lk (by simp only [nI_add]) (by omega) ?_
          rw [a2]
          refine gl_iconst (v := nI 0) dX0_askedAnswers_58 (by decide) ?_
          refine gl_iconst (v := nI 1) dX0_askedAnswers_59 (by decide) ?_
          refine gl_callS (x_isIn L _ _ _ _) dX0_askedAnswers_60 q298 q299 q74 q300 rfl hX0_isIn rfl rfl (rmOk (by omega) rfl) ⟨by first | exact Nat.le_refl _ | exact Nat.zero_le _ | decide | (dsimp only [rm]; omega), by first | exact Nat.le_refl _ | exact Nat.zero_le _ | decide | (dsimp only [rm]; omega)⟩ (rt1 ?_)
          refine gl_if_ne (tgt := 72) dX0_askedAnswers_63 (by decide) (fun h63 => ?_) (fun h63 => ?_)
          · have hz : lfV (y.2.2 23) (rwF y k) j = true := by
              unfold lfV rwF
              rw [hV.lb.q, hq]
              exact bI_tr h63
            refine gl_iinc (v := (nI ((2*j) + 2))) dX0_askedAnswers_72 rfl (nI_add _ 2) rfl rfl ?_
            refine gl_goto (tgt := 37) dX0_askedAnswers_75 (by decide) ?_
            refine ih (fun i hi => ?_)
            rcases Nat.lt_or_ge i j with z | z
            · exact hall i z
            · rw [show i = j by omega]; exact hz
          · have hz : lfV (y.2.2 23) (rwF y k) j = false := by
              unfold lfV rwF
              rw [hV.lb.q, hq]
              exact bI_fa h63
            refine gl_aload_n dX0_askedAnswers_66 rfl ?_
            refine gl_iconst (v := nI 3) dX0_askedAnswers_67 (by decide) ?_
            refine gl_callV (x_found L o x 3 (by omega)) dX0_askedAnswers_68 q301 q303 qs2 q74 q304 rfl hX0_found rfl (rfl : vwCl[0]? = some (RX0, TX0, 30)) rfl rfl (rmOk (by omega) rfl) ⟨by first | exact Nat.le_refl _ | exact Nat.zero_le _ | decide | (dsimp only [rm]; omega), by first | exact Nat.le_refl _ | exact Nat.zero_le _ | decide | (dsimp only [rm]; omega)⟩ (rt1 ?_)
            exact gl_iret dX0_askedAnswers_71 rfl (Or.inr ⟨rfl, 3, by omega, rfl, hno hz⟩) (hc := by first | exact Nat.zero_le _ | (dsimp only [rm]; omega)) (hs := by first | exact Nat.zero_le _ | (dsimp only [rm]; omega))
      · intro hall
        refine gl_iload_n dX0_askedAnswers_37 rfl ?_
        refine gl_aload_n dX0_askedAnswers_38 rfl ?_
        refine gl_alen dX0_askedAnswers_39 hO.lk ?_
        refine gl_icmp_ge (tgt := 78) dX0_askedAnswers_40 (by decide) (fun _ => ?_) (fun h => absurd (nI_le (by omega) (by omega)) h)
        refine gl_iconst (v := nI 0) dX0_askedAnswers_78 (by decide) ?_
        exact gl_iret dX0_askedAnswers_79 rfl (Or.inl ⟨rfl, rfl, p, s, f, e, hO, es, hs, hf, h2, hall⟩) (hc := by first | exact Nat.zero_le _ | (dsimp only [rm]; omega)) (hs := by first | exact Nat.zero_le _ | (dsimp only [rm]; omega))
    · rw [if_pos (by omega)] at esp
      refine gl_if_eq (tgt := 35) dX0_askedAnswers_26 (by decide) (fun h => absurd h (nI_ne0 (by omega) (by omega))) (fun _ => ?_)
      refine gl_aload_n dX0_askedAnswers_29 rfl ?_
      refine gl_iconst (v := nI 5) dX0_askedAnswers_30 (by decide) ?_
      refine gl_callV (x_found L o x 5 (by omega)) dX0_askedAnswers_31 q301 q303 qs2 q74 q304 rfl hX0_found rfl (rfl : vwCl[0]? = some (RX0, TX0, 30)) rfl rfl (rmOk (by omega) rfl) ⟨by first | exact Nat.le_refl _ | exact Nat.zero_le _ | decide | (dsimp only [rm]; omega), by first | exact Nat.le_refl _ | exact Nat.zero_le _ | decide | (dsimp only [rm]; omega)⟩ (rt1 ?_)
      exact gl_iret dX0_askedAnswers_34 rfl (Or.inr ⟨rfl, 5, by omega, rfl, esp⟩) (hc := by first | exact Nat.zero_le _ | (dsimp only [rm]; omega)) (hs := by first | exact Nat.zero_le _ | (dsimp only [rm]; omega))
theorem x_left (hV : RV o τ x y n m t) (r : Int32) : Ct yX0_left gX0_left (L + 18) 0 0 [.ref 1, .int r] (mX o x) (XR o (sp_left y n r)) := by
  refine Ct.of rfl rfl rfl rfl rfl ?_
  have h7 := hV.lb.c7
  have h7q := hV.lb.q7
  have hX := hV.rl
  refine gl_iload_n dX0_left_0 rfl ?_
  refine gl_callS (x_isRow L _ _) dX0_left_1 q295 q296 q74 q297 rfl hX0_isRow rfl rfl (rmOk (by omega) rfl) ⟨by first | exact Nat.le_refl _ | exact Nat.zero_le _ | decide | (dsimp only [rm]; omega), by first | exact Nat.le_refl _ | exact Nat.zero_le _ | decide | (dsimp only [rm]; omega)⟩ (rt1 ?_)
  refine gl_if_ne (tgt := 9) dX0_left_4 (by decide) (fun h4 => ?_) (fun h4 => ?_)
  · have hr := bI_tr h4
    obtain ⟨k, -, hk, rfl⟩ := inR_nat (a := 0) (b := 5) (by omega) (by omega) hr
    refine gl_aload_n dX0_left_9 rfl ?_
    refine gl_iload_n dX0_left_10 rfl ?_
    refine gl_callV (x_askedA L hV k hk) dX0_left_11 q903 q905 qs33 q74 q906 rfl hX0_askedAnswers rfl (rfl : vwCl[0]? = some (RX0, TX0, 30)) rfl rfl (rmOk (by omega) rfl) ⟨by first | exact Nat.le_refl _ | exact Nat.zero_le _ | decide | (dsimp only [rm]; omega), by first | exact Nat.le_refl _ | exact Nat.zero_le _ | decide | (dsimp only [rm]; omega)⟩ ?_
    rintro _ _ (⟨rfl, rfl, p, s, f, e, hO, es, hs, hf, h2, hall⟩ | ⟨rfl, ff, hff, rfl, esp⟩)
    · have esp : sp_left y n (nI k) = (lfG (y.2.2 23) (rwF y k) n (allC n) (s / 2), y) := by
        unfold sp_left
        rw [if_pos hr, ix_nI (show k < 100 by omega), es, if_neg (nI_pos (by omega)), ix_nI (show s < 100 by omega), if_neg (by omega)]
        have := lf_yes (w := y.2.2 23) (g := rwF y k) (n := n) (set0 := allC n) (s / 2) 0 (fun j hj => hall j (by omega))
        rw [Nat.zero_add] at this
        rw [show lfF (y.2.2 23) (rwF y k) n (s / 2) 0 (allC n) = some (lfG (y.2.2 23) (rwF y k) n (allC n) (s / 2)) from this]
        rfl
      rw [esp]
      refine gl_istore_n dX0_left_14 rfl rfl ?_
      refine gl_iload_n dX0_left_15 rfl ?_
      refine gl_if_ge (tgt := 21) dX0_left_16 (by decide) (fun _ => ?_) (fun h => absurd ((by decide)) h)
      refine gl_iconst (v := nI 1) dX0_left_21 (by decide) ?_
      refine gl_aload_n dX0_left_22 rfl ?_
      refine gl_get (k := 7) dX0_left_23 rfl (rfl : vwCl[0]? = some (RX0, TX0, 30)) in_X0 (by decide) q119 rfl ?_
      refine gl_top (w := .int (nI n)) (congrArg Value.int hX.many) ?_
      refine gl_ishl dX0_left_26 ?_
      refine gl_iconst (v := nI 1) dX0_left_27 (by decide) ?_
      refine gl_isub dX0_left_28 ?_
      refine gl_istore_n dX0_left_29 rfl rfl ?_
      refine gl_iconst (v := nI 0) dX0_left_30 (by decide) ?_
      refine gl_istore dX0_left_31 rfl rfl ?_
      refine gl_loop (fun j => [some (.ref 1), some (.int (nI k)), some (.int (nI 0)), some (.int (lfG (y.2.2 23) (rwF y k) n (allC n) j)), some (.int (nI (2 * j)))]) (fun _ => mX o x) (s / 2) ?_ ?_
      · intro j hj ih
        have a1 := hf (2 * j) (by omega)
        have a2 := hf (2 * j + 1) (by omega)
        have hv := hall j hj
        unfold lfV rwF at hv
        rw [Bool.and_eq_true, hV.lb.q] at hv
        obtain ⟨q, hq, eq⟩ := inR_n (by omega) hv.1
        have ixq : ix (y.2.2 20 (40 * k + 2 * j)) = q := by rw [eq]; exact ix_nI (by omega)
        have es1 : lfG (y.2.2 23) (rwF y k) n (allC n) (j + 1) = lfG (y.2.2 23) (rwF y k) n (allC n) j &&& (if y.2.2 20 (40 * k + (2 * j + 1)) = nI 1 then fsI (y.2.2 23) n q else fsI (y.2.2 23) n q ^^^ (-1)) := by rw [← ixq]; rfl
        refine gl_iload dX0_left_33 rfl ?_
        refine gl_aload_n dX0_left_35 rfl ?_
        refine gl_get (k := 5) dX0_left_36 rfl (rfl : vwCl[0]? = some (RX0, TX0, 30)) in_X0 (by decide) q117 rfl ?_
        refine gl_iload_n dX0_left_39 rfl ?_
        refine gl_aald (j := k) dX0_left_40 rfl rfl (by omega) e ?_
        refine gl_alen dX0_left_41 hO.lk ?_
        refine gl_icmp_ge (tgt := 100) dX0_left_42 (by decide) (fun h => absurd h (nI_ge (by omega) (by omega))) (fun _ => ?_)
        refine gl_iload_n dX0_left_45 rfl ?_
        refine gl_aload_n dX0_left_46 rfl ?_
        refine gl_get (k := 5) dX0_left_47 rfl (rfl : vwCl[0]? = some (RX0, TX0, 30)) in_X0 (by decide) q117 rfl ?_
        refine gl_iload_n dX0_left_50 rfl ?_
        refine gl_aald (j := k) dX0_left_51 rfl rfl (by omega) e ?_
        refine gl_iload dX0_left_52 rfl ?_
        refine gl_iconst (v := nI 1) dX0_left_54 (by decide) ?_
        refine gl_iadd dX0_left_55 ?_
        refine gl_iald (j := (2*j+1)) dX0_left_56 hO.lk (by simp only [nI_add]) (by omega) ?_
        rw [a2]
        refine gl_iconst (v := nI 1) dX0_left_57 (by decide) ?_
        refine gl_icmp_ne (tgt := 77) dX0_left_58 (by decide) (fun h58 => ?_) (fun h58 => ?_)
        · rw [if_neg h58] at es1
          refine gl_aload_n dX0_left_77 rfl ?_
          refine gl_aload_n dX0_left_78 rfl ?_
          refine gl_get (k := 5) dX0_left_79 rfl (rfl : vwCl[0]? = some (RX0, TX0, 30)) in_X0 (by decide) q117 rfl ?_
          refine gl_iload_n dX0_left_82 rfl ?_
          refine gl_aald (j := k) dX0_left_83 rfl rfl (by omega) e ?_
          refine gl_iload dX0_left_84 rfl ?_
          refine gl_iald (j := (2*j)) dX0_left_86 hO.lk rfl (by omega) ?_
          rw [a1, eq]
          refine gl_callV (x_fitSet L o x hX hV.lb q hq) dX0_left_87 q727 q729 qs20 q74 q730 rfl hX0_fitSet rfl (rfl : vwCl[0]? = some (RX0, TX0, 30)) rfl rfl (rmOk (by omega) rfl) ⟨by first | exact Nat.le_refl _ | exact Nat.zero_le _ | decide | (dsimp only [rm]; omega), by first | exact Nat.le_refl _ | exact Nat.zero_le _ | decide | (dsimp only [rm]; omega)⟩ (rt1 ?_)
          refine gl_iconst (v := (-1)) dX0_left_90 (by decide) ?_
          refine gl_ixor dX0_left_91 ?_
          refine gl_iand dX0_left_92 ?_
          refine gl_istore_n dX0_left_93 rfl rfl ?_
          refine gl_iinc (v := (nI ((2*j) + 2))) dX0_left_94 rfl (nI_add _ 2) rfl rfl ?_
          refine gl_goto (tgt := 33) dX0_left_97 (by decide) ?_
          refine gl_lcs ?_ ih
          rw [es1]
          rfl
        · rw [if_pos h58] at es1
          refine gl_aload_n dX0_left_61 rfl ?_
          refine gl_aload_n dX0_left_62 rfl ?_
          refine gl_get (k := 5) dX0_left_63 rfl (rfl : vwCl[0]? = some (RX0, TX0, 30)) in_X0 (by decide) q117 rfl ?_
          refine gl_iload_n dX0_left_66 rfl ?_
          refine gl_aald (j := k) dX0_left_67 rfl rfl (by omega) e ?_
          refine gl_iload dX0_left_68 rfl ?_
          refine gl_iald (j := (2*j)) dX0_left_70 hO.lk rfl (by omega) ?_
          rw [a1, eq]
          refine gl_callV (x_fitSet L o x hX hV.lb q hq) dX0_left_71 q727 q729 qs20 q74 q730 rfl hX0_fitSet rfl (rfl : vwCl[0]? = some (RX0, TX0, 30)) rfl rfl (rmOk (by omega) rfl) ⟨by first | exact Nat.le_refl _ | exact Nat.zero_le _ | decide | (dsimp only [rm]; omega), by first | exact Nat.le_refl _ | exact Nat.zero_le _ | decide | (dsimp only [rm]; omega)⟩ (rt1 ?_)
          refine gl_goto (tgt := 92) dX0_left_74 (by decide) ?_
          refine gl_iand dX0_left_92 ?_
          refine gl_istore_n dX0_left_93 rfl rfl ?_
          refine gl_iinc (v := (nI ((2*j) + 2))) dX0_left_94 rfl (nI_add _ 2) rfl rfl ?_
          refine gl_goto (tgt := 33) dX0_left_97 (by decide) ?_
          refine gl_lcs ?_ ih
          rw [es1]
          rfl
      · refine gl_iload dX0_left_33 rfl ?_
        refine gl_aload_n dX0_left_35 rfl ?_
        refine gl_get (k := 5) dX0_left_36 rfl (rfl : vwCl[0]? = some (RX0, TX0, 30)) in_X0 (by decide) q117 rfl ?_
        refine gl_iload_n dX0_left_39 rfl ?_
        refine gl_aald (j := k) dX0_left_40 rfl rfl (by omega) e ?_
        refine gl_alen dX0_left_41 hO.lk ?_
        refine gl_icmp_ge (tgt := 100) dX0_left_42 (by decide) (fun _ => ?_) (fun h => absurd (nI_le (by omega) (by omega)) h)
        refine gl_iload_n dX0_left_100 rfl ?_
        exact gl_iret dX0_left_101 rfl (XR.same hV) (hc := by first | exact Nat.zero_le _ | (dsimp only [rm]; omega)) (hs := by first | exact Nat.zero_le _ | (dsimp only [rm]; omega))
    · rw [esp]
      refine gl_istore_n dX0_left_14 rfl rfl ?_
      refine gl_iload_n dX0_left_15 rfl ?_
      refine gl_if_ge (tgt := 21) dX0_left_16 (by decide) (fun h => absurd h ((by decide))) (fun _ => ?_)
      refine gl_iload_n dX0_left_19 rfl ?_
      exact gl_iret dX0_left_20 rfl (XR.ofnd ff hff hV) (hc := by first | exact Nat.zero_le _ | (dsimp only [rm]; omega)) (hs := by first | exact Nat.zero_le _ | (dsimp only [rm]; omega))
  · rw [show sp_left y n r = (-1, y) by unfold sp_left; rw [if_neg (by simp [bI_fa h4])]]
    refine gl_iconst (v := (-1)) dX0_left_7 (by decide) ?_
    exact gl_iret dX0_left_8 rfl (XR.same hV) (hc := by first | exact Nat.zero_le _ | (dsimp only [rm]; omega)) (hs := by first | exact Nat.zero_le _ | (dsimp only [rm]; omega))
end XI

