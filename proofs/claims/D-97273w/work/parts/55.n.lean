/-! the component's readers: who answers what; sets of cards -/
set_option maxRecDepth 100000
theorem ansL_at {w : Nat → Int32} {n m k c : Nat} (hB : Bv (fun q => w (66 + q)) n m) (hk : k < m) (e : w (66 + k) = nI c) (hc : c < 100) : ∀ j, k < j → j ≤ m → ansL w (nI c) j = nI k := by
  intro j
  induction j with
  | zero => intro h; omega
  | succ j ih =>
    intro h1 h2
    unfold ansL
    by_cases h : j = k
    · subst h
      rw [if_pos e]
    · have hne : ¬ w (66 + j) = nI c := fun z => h (hB.2 j k (by omega) hk (by
        show ¬ w (66 + j) = -9
        rw [z]
        exact fun q => by
          have := congrArg Int32.toInt q
          rw [nI_toInt (by omega)] at this
          have e9 : (-9 : Int32).toInt = -9 := by decide
          omega) (by show w (66 + j) = w (66 + k); rw [z, e]))
      rw [if_neg hne]
      exact ih (by omega) (by omega)
theorem ansL_none {w : Nat → Int32} {c : Int32} : ∀ m, (∀ k, k < m → ¬ w (66 + k) = c) → ansL w c m = -9
  | 0, _ => rfl
  | m + 1, h => by
    unfold ansL
    rw [if_neg (h m (by omega))]
    exact ansL_none m (fun k hk => h k (by omega))
theorem nI_ne9 {c : Nat} (hc : c < 2 ^ 31) : ¬ nI c = -9 := fun q => by
  have := congrArg Int32.toInt q
  rw [nI_toInt hc] at this
  have e9 : (-9 : Int32).toInt = -9 := by decide
  omega
theorem orI_and (p q : Nat → Bool) {n : Nat} (hn : n ≤ 31) : orI p n &&& orI q n = orI (fun c => p c && q c) n := by
  refine bit_ext (fun i hi => ?_)
  rw [bit_and, bit_orI _ _ _ hn hi, bit_orI _ _ _ hn hi, bit_orI _ _ _ hn hi]
  cases decide (i < n) <;> simp
theorem and_m1 (v : Int32) : v &&& (-1) = v := by
  refine bit_ext (fun i hi => ?_)
  rw [bit_and, bit_m1 i hi]
  simp
theorem allC_or : ∀ n, n ≤ 7 → allC n = orI (fun _ => true) n := by decide
theorem orI_0 (p : Nat → Bool) (n : Nat) (h : ∀ c, c < n → p c = false) : orI p n = nI 0 := by
  induction n with
  | zero => rfl
  | succ n ih =>
    unfold orI
    rw [ih (fun c hc => h c (by omega)), h n (by omega), if_neg (by decide)]
    decide
section XB
variable (L : Nat) (o : OX) (x : XY) {τ : Nat → Nat} {w : Nat → Int32} {n m t : Nat}
theorem x_answers (hX : RL o τ x w n m t) (hL : Lb w n m t) (c : Nat) (hc : c < 100) : Ct yX0_answers gX0_answers (L + 10) 0 0 [.ref 1, .int (nI c)] (mX o x) (Rt (some (.int (ansL w (nI c) m))) (mX o x)) := by
  refine Ct.of rfl rfl rfl rfl rfl ?_
  have h7q := hL.q7
  refine gl_iconst (v := nI 0) dX0_answers_0 (by decide) ?_
  refine gl_istore_n dX0_answers_1 rfl rfl ?_
  refine dn (Q := fun k => (∀ j, j < k → ¬ w (66 + j) = nI c) → GL gX0_answers (rm (L + 10) 0 0) (Rt (some (.int (ansL w (nI c) m))) (mX o x)) 0 0 2 [some (.ref 1), some (.int (nI c)), some (.int (nI k))] [] (mX o x)) m ?_ ?_ (fun j h => absurd h (Nat.not_lt_zero j))
  · intro k hk ih hno
    have eb := hX.by_ k (by omega)
    refine gl_iload_n dX0_answers_2 rfl ?_
    refine gl_aload_n dX0_answers_3 rfl ?_
    refine gl_get (k := 9) dX0_answers_4 rfl (rfl : vwCl[0]? = some (RX0, TX0, 30)) in_X0 (by decide) q122 rfl ?_
    refine gl_icmp_ge (tgt := 28) dX0_answers_7 (by decide) (fun h => absurd h ((by rw [hX.askMany]; exact nI_ge hk (by omega)))) (fun _ => ?_)
    refine gl_aload_n dX0_answers_10 rfl ?_
    refine gl_get (k := 12) dX0_answers_11 rfl (rfl : vwCl[0]? = some (RX0, TX0, 30)) in_X0 (by decide) q125 rfl ?_
    refine gl_iload_n dX0_answers_14 rfl ?_
    refine gl_iald (j := k) dX0_answers_15 rfl rfl (by omega) ?_
    refine gl_iload_n dX0_answers_16 rfl ?_
    refine gl_icmp_ne (tgt := 22) dX0_answers_17 (by decide) (fun h17 => ?_) (fun h17 => ?_)
    · rw [eb] at h17
      refine gl_iinc (v := (nI (k + 1))) dX0_answers_22 rfl (nI_1 _) rfl rfl ?_
      refine gl_goto (tgt := 2) dX0_answers_25 (by decide) ?_
      refine ih (fun j hj => ?_)
      rcases Nat.lt_or_ge j k with h | h
      · exact hno j h
      · have : j = k := by omega
        rw [this]
        exact h17
    · rw [eb] at h17
      refine gl_iload_n dX0_answers_20 rfl ?_
      exact gl_iret dX0_answers_21 rfl ⟨by rw [ansL_at hL.by_ hk h17 hc m hk (Nat.le_refl _)], rfl⟩
  · intro hno
    refine gl_iload_n dX0_answers_2 rfl ?_
    refine gl_aload_n dX0_answers_3 rfl ?_
    refine gl_get (k := 9) dX0_answers_4 rfl (rfl : vwCl[0]? = some (RX0, TX0, 30)) in_X0 (by decide) q122 rfl ?_
    refine gl_icmp_ge (tgt := 28) dX0_answers_7 (by decide) (fun _ => ?_) (fun h => absurd ((by rw [hX.askMany]; exact nI_le (Nat.le_refl _) (by omega))) h)
    refine gl_bipush (v := (-9)) dX0_answers_28 (by decide) ?_
    exact gl_iret dX0_answers_30 rfl ⟨by rw [ansL_none m hno], rfl⟩
theorem x_cardTells (hX : RL o τ x w n m t) (hL : Lb w n m t) (c wh : Nat) (hc : c < n) (hw : wh ≤ 5) : Ct yX0_cardTells gX0_cardTells (L + 15) 0 0 [.ref 1, .int (nI c), .int (nI wh)] (mX o x) (Rt (some (.int (toldC w m c (nI wh)))) (mX o x)) := by
  refine Ct.of rfl rfl rfl rfl rfl ?_
  have h7 := hL.c7
  obtain ⟨k, e, -⟩ := hX.card c hc
  refine gl_aload_n dX0_cardTells_0 rfl ?_
  refine gl_get (k := 8) dX0_cardTells_1 rfl (rfl : vwCl[0]? = some (RX0, TX0, 30)) in_X0 (by decide) q121 rfl ?_
  refine gl_iload_n dX0_cardTells_4 rfl ?_
  refine gl_aald (j := c) dX0_cardTells_5 rfl rfl (by omega) e ?_
  refine gl_astore_n dX0_cardTells_6 rfl rfl ?_
  refine gl_iload_n dX0_cardTells_7 rfl ?_
  match wh, hw with
  | 0, _ =>
    refine gl_tableIn (tgt := 44) dX0_cardTells_8 (by decide) (by decide) rfl (by decide) ?_
    refine gl_aload_n dX0_cardTells_44 rfl ?_
    refine gl_kindW hX hL hc e dX0_cardTells_45 q525 (by omega) rfl ⟨by first | exact Nat.le_refl _ | exact Nat.zero_le _ | decide | (dsimp only [rm]; omega), by first | exact Nat.le_refl _ | exact Nat.zero_le _ | decide | (dsimp only [rm]; omega)⟩ ?_
    exact gl_iret dX0_cardTells_48 rfl ⟨rfl, rfl⟩
  | 1, _ =>
    refine gl_tableIn (tgt := 49) dX0_cardTells_8 (by decide) (by decide) rfl (by decide) ?_
    refine gl_aload_n dX0_cardTells_49 rfl ?_
    refine gl_saysW hX hL hc e dX0_cardTells_50 q545 (by omega) rfl ⟨by first | exact Nat.le_refl _ | exact Nat.zero_le _ | decide | (dsimp only [rm]; omega), by first | exact Nat.le_refl _ | exact Nat.zero_le _ | decide | (dsimp only [rm]; omega)⟩ ?_
    exact gl_iret dX0_cardTells_53 rfl ⟨rfl, rfl⟩
  | 2, _ =>
    refine gl_tableIn (tgt := 54) dX0_cardTells_8 (by decide) (by decide) rfl (by decide) ?_
    refine gl_aload_n dX0_cardTells_54 rfl ?_
    refine gl_meansW hX hL hc e dX0_cardTells_55 q555 (by omega) rfl ⟨by first | exact Nat.le_refl _ | exact Nat.zero_le _ | decide | (dsimp only [rm]; omega), by first | exact Nat.le_refl _ | exact Nat.zero_le _ | decide | (dsimp only [rm]; omega)⟩ ?_
    exact gl_iret dX0_cardTells_58 rfl ⟨rfl, rfl⟩
  | 3, _ =>
    refine gl_tableIn (tgt := 59) dX0_cardTells_8 (by decide) (by decide) rfl (by decide) ?_
    refine gl_aload_n dX0_cardTells_59 rfl ?_
    refine gl_shelfW hX hL hc e dX0_cardTells_60 n450 ?_
    exact gl_iret dX0_cardTells_63 rfl ⟨rfl, rfl⟩
  | 4, _ =>
    refine gl_tableIn (tgt := 64) dX0_cardTells_8 (by decide) (by decide) rfl (by decide) ?_
    refine gl_aload_n dX0_cardTells_64 rfl ?_
    refine gl_ageFW hX hL hc e dX0_cardTells_65 n452 ?_
    exact gl_iret dX0_cardTells_68 rfl ⟨rfl, rfl⟩
  | 5, _ =>
    refine gl_tableOut (tgt := 69) dX0_cardTells_8 (by decide) (by decide) ?_
    refine gl_aload_n dX0_cardTells_69 rfl ?_
    refine gl_iload_n dX0_cardTells_70 rfl ?_
    refine gl_callV (x_answers L o x hX hL (c) (by omega)) dX0_cardTells_71 q584 q586 qs11 q74 q587 rfl hX0_answers rfl (rfl : vwCl[0]? = some (RX0, TX0, 30)) rfl rfl (rmOk (by omega) rfl) ⟨by first | exact Nat.le_refl _ | exact Nat.zero_le _ | decide | (dsimp only [rm]; omega), by first | exact Nat.le_refl _ | exact Nat.zero_le _ | decide | (dsimp only [rm]; omega)⟩ (rt1 ?_)
    exact gl_iret dX0_cardTells_74 rfl ⟨rfl, rfl⟩
theorem x_questionTells (hX : RL o τ x w n m t) (hL : Lb w n m t) (q wh : Nat) (hq : q < m) (hw : wh ≤ 5) : Ct yX0_questionTells gX0_questionTells (L + 11) 0 0 [.ref 1, .int (nI q), .int (nI wh)] (mX o x) (Rt (some (.int (w (31 + 7 * wh + q)))) (mX o x)) := by
  refine Ct.of rfl rfl rfl rfl rfl ?_
  have h7q := hL.q7
  rcases Nat.lt_or_ge wh 4 with hw4 | hw4
  · refine gl_iload_n dX0_questionTells_0 rfl ?_
    refine gl_iconst (v := nI 4) dX0_questionTells_1 (by decide) ?_
    refine gl_icmp_ge (tgt := 14) dX0_questionTells_2 (by decide) (fun h => absurd h (nI_ge hw4 (by omega))) (fun _ => ?_)
    refine gl_aload_n dX0_questionTells_5 rfl ?_
    refine gl_iload_n dX0_questionTells_6 rfl ?_
    refine gl_iload_n dX0_questionTells_7 rfl ?_
    refine gl_callV (x_askOf L o x hX (q) (wh) (by omega) (by omega) (by omega)) dX0_questionTells_8 q600 q602 qs14 q74 q603 rfl hX0_askOf rfl (rfl : vwCl[0]? = some (RX0, TX0, 30)) rfl rfl (rmOk (by omega) rfl) ⟨by first | exact Nat.le_refl _ | exact Nat.zero_le _ | decide | (dsimp only [rm]; omega), by first | exact Nat.le_refl _ | exact Nat.zero_le _ | decide | (dsimp only [rm]; omega)⟩ (rt1 ?_)
    refine gl_goto (tgt := 34) dX0_questionTells_11 (by decide) ?_
    exact gl_iret dX0_questionTells_34 rfl ⟨rfl, rfl⟩
  · refine gl_iload_n dX0_questionTells_0 rfl ?_
    refine gl_iconst (v := nI 4) dX0_questionTells_1 (by decide) ?_
    refine gl_icmp_ge (tgt := 14) dX0_questionTells_2 (by decide) (fun _ => ?_) (fun h => absurd (nI_le hw4 (by omega)) h)
    rcases Nat.lt_or_ge 4 wh with h4 | h4
    · have e5 : wh = 5 := by omega
      subst e5
      refine gl_iload_n dX0_questionTells_14 rfl ?_
      refine gl_iconst (v := nI 4) dX0_questionTells_15 (by decide) ?_
      refine gl_icmp_ne (tgt := 28) dX0_questionTells_16 (by decide) (fun _ => ?_) (fun h => absurd h ((by decide)))
      refine gl_aload_n dX0_questionTells_28 rfl ?_
      refine gl_get (k := 12) dX0_questionTells_29 rfl (rfl : vwCl[0]? = some (RX0, TX0, 30)) in_X0 (by decide) q125 rfl ?_
      refine gl_iload_n dX0_questionTells_32 rfl ?_
      refine gl_iald (j := q) dX0_questionTells_33 rfl rfl (by omega) ?_
      rw [hX.by_ q (by omega)]
      exact gl_iret dX0_questionTells_34 rfl ⟨rfl, rfl⟩
    · have e4 : wh = 4 := by omega
      subst e4
      refine gl_iload_n dX0_questionTells_14 rfl ?_
      refine gl_iconst (v := nI 4) dX0_questionTells_15 (by decide) ?_
      refine gl_icmp_ne (tgt := 28) dX0_questionTells_16 (by decide) (fun h => absurd ((by decide)) h) (fun _ => ?_)
      refine gl_aload_n dX0_questionTells_19 rfl ?_
      refine gl_get (k := 11) dX0_questionTells_20 rfl (rfl : vwCl[0]? = some (RX0, TX0, 30)) in_X0 (by decide) q124 rfl ?_
      refine gl_iload_n dX0_questionTells_23 rfl ?_
      refine gl_iald (j := q) dX0_questionTells_24 rfl rfl (by omega) ?_
      rw [hX.truth q (by omega)]
      refine gl_goto (tgt := 34) dX0_questionTells_25 (by decide) ?_
      exact gl_iret dX0_questionTells_34 rfl ⟨rfl, rfl⟩
theorem x_isRight (hX : RL o τ x w n m t) (hL : Lb w n m t) (q c : Nat) (hq : q < m) (hc : c < n) (ec : w (66 + q) = nI c) : Ct yX0_isRight gX0_isRight (L + 15) 0 0 [.ref 1, .int (nI q)] (mX o x) (Rt (some (.int (stB w q))) (mX o x)) := by
  refine Ct.of rfl rfl rfl rfl rfl ?_
  have h7 := hL.c7
  have h7q := hL.q7
  have et := hX.truth q (by omega)
  have eb := hX.by_ q (by omega)
  obtain ⟨k, e, -⟩ := hX.card c hc
  have ei : ix (w (66 + q)) = c := by rw [ec]; exact ix_nI (by omega)
  refine gl_aload_n dX0_isRight_0 rfl ?_
  refine gl_get (k := 11) dX0_isRight_1 rfl (rfl : vwCl[0]? = some (RX0, TX0, 30)) in_X0 (by decide) q124 rfl ?_
  refine gl_iload_n dX0_isRight_4 rfl ?_
  refine gl_iald (j := q) dX0_isRight_5 rfl rfl (by omega) ?_
  refine gl_bipush (v := (-9)) dX0_isRight_6 (by decide) ?_
  refine gl_icmp_ne (tgt := 15) dX0_isRight_8 (by decide) (fun h8 => ?_) (fun h8 => ?_)
  · rw [et] at h8
    refine gl_aload_n dX0_isRight_15 rfl ?_
    refine gl_get (k := 8) dX0_isRight_16 rfl (rfl : vwCl[0]? = some (RX0, TX0, 30)) in_X0 (by decide) q121 rfl ?_
    refine gl_aload_n dX0_isRight_19 rfl ?_
    refine gl_get (k := 12) dX0_isRight_20 rfl (rfl : vwCl[0]? = some (RX0, TX0, 30)) in_X0 (by decide) q125 rfl ?_
    refine gl_iload_n dX0_isRight_23 rfl ?_
    refine gl_iald (j := q) dX0_isRight_24 rfl rfl (by omega) ?_
    refine gl_aald (j := c) dX0_isRight_25 rfl (eb.trans ec) (by omega) e ?_
    refine gl_meansW hX hL hc e dX0_isRight_26 q555 (by omega) rfl ⟨by first | exact Nat.le_refl _ | exact Nat.zero_le _ | decide | (dsimp only [rm]; omega), by first | exact Nat.le_refl _ | exact Nat.zero_le _ | decide | (dsimp only [rm]; omega)⟩ ?_
    refine gl_aload_n dX0_isRight_29 rfl ?_
    refine gl_get (k := 11) dX0_isRight_30 rfl (rfl : vwCl[0]? = some (RX0, TX0, 30)) in_X0 (by decide) q124 rfl ?_
    refine gl_iload_n dX0_isRight_33 rfl ?_
    refine gl_iald (j := q) dX0_isRight_34 rfl rfl (by omega) ?_
    refine gl_icmp_ne (tgt := 42) dX0_isRight_35 (by decide) (fun h35 => ?_) (fun h35 => ?_)
    · rw [et] at h35
      refine gl_iconst (v := nI 0) dX0_isRight_42 (by decide) ?_
      exact gl_iret dX0_isRight_43 rfl ⟨by unfold stB; rw [if_neg h8, ei, if_neg h35], rfl⟩
    · rw [et] at h35
      refine gl_iconst (v := nI 1) dX0_isRight_38 (by decide) ?_
      refine gl_goto (tgt := 43) dX0_isRight_39 (by decide) ?_
      exact gl_iret dX0_isRight_43 rfl ⟨by unfold stB; rw [if_neg h8, ei, if_pos h35], rfl⟩
  · rw [et] at h8
    refine gl_iconst (v := nI 2) dX0_isRight_11 (by decide) ?_
    refine gl_goto (tgt := 43) dX0_isRight_12 (by decide) ?_
    exact gl_iret dX0_isRight_43 rfl ⟨by unfold stB; rw [if_pos h8], rfl⟩
theorem x_mayTake (hX : RL o τ x w n m t) (hL : Lb w n m t) (q c : Nat) (hq : q < m) (hc : c < n) : Ct yX0_mayTake gX0_mayTake (L + 17) 0 0 [.ref 1, .int (nI q), .int (nI c)] (mX o x) (Rt (some (.int (bI (fitB w q c && frQ w q && frC w m c)))) (mX o x)) := by
  refine Ct.of rfl rfl rfl rfl rfl ?_
  have h7 := hL.c7
  have h7q := hL.q7
  have eb := hX.by_ q (by omega)
  refine gl_aload_n dX0_mayTake_0 rfl ?_
  refine gl_iload_n dX0_mayTake_1 rfl ?_
  refine gl_iload_n dX0_mayTake_2 rfl ?_
  refine gl_callV (x_doesFit L o x hX hL (c) (q) (by omega) (by omega)) dX0_mayTake_3 q686 q688 qs18 q74 q689 rfl hX0_doesFit rfl (rfl : vwCl[0]? = some (RX0, TX0, 30)) rfl rfl (rmOk (by omega) rfl) ⟨by first | exact Nat.le_refl _ | exact Nat.zero_le _ | decide | (dsimp only [rm]; omega), by first | exact Nat.le_refl _ | exact Nat.zero_le _ | decide | (dsimp only [rm]; omega)⟩ (rt1 ?_)
  refine gl_if_eq (tgt := 34) dX0_mayTake_6 (by decide) (fun h6 => ?_) (fun h6 => ?_)
  · refine gl_iconst (v := nI 0) dX0_mayTake_34 (by decide) ?_
    exact gl_zret dX0_mayTake_35 rfl (by decide) ⟨by simp_all [frQ, frC, bI, nI], rfl⟩
  · refine gl_aload_n dX0_mayTake_9 rfl ?_
    refine gl_get (k := 12) dX0_mayTake_10 rfl (rfl : vwCl[0]? = some (RX0, TX0, 30)) in_X0 (by decide) q125 rfl ?_
    refine gl_iload_n dX0_mayTake_13 rfl ?_
    refine gl_iald (j := q) dX0_mayTake_14 rfl rfl (by omega) ?_
    refine gl_bipush (v := (-9)) dX0_mayTake_15 (by decide) ?_
    refine gl_icmp_ne (tgt := 34) dX0_mayTake_17 (by decide) (fun h17 => ?_) (fun h17 => ?_)
    · refine gl_iconst (v := nI 0) dX0_mayTake_34 (by decide) ?_
      exact gl_zret dX0_mayTake_35 rfl (by decide) ⟨by simp_all [frQ, frC, bI, nI], rfl⟩
    · refine gl_aload_n dX0_mayTake_20 rfl ?_
      refine gl_iload_n dX0_mayTake_21 rfl ?_
      refine gl_callV (x_answers L o x hX hL (c) (by omega)) dX0_mayTake_22 q584 q586 qs11 q74 q587 rfl hX0_answers rfl (rfl : vwCl[0]? = some (RX0, TX0, 30)) rfl rfl (rmOk (by omega) rfl) ⟨by first | exact Nat.le_refl _ | exact Nat.zero_le _ | decide | (dsimp only [rm]; omega), by first | exact Nat.le_refl _ | exact Nat.zero_le _ | decide | (dsimp only [rm]; omega)⟩ (rt1 ?_)
      refine gl_bipush (v := (-9)) dX0_mayTake_25 (by decide) ?_
      refine gl_icmp_ne (tgt := 34) dX0_mayTake_27 (by decide) (fun h27 => ?_) (fun h27 => ?_)
      · refine gl_iconst (v := nI 0) dX0_mayTake_34 (by decide) ?_
        exact gl_zret dX0_mayTake_35 rfl (by decide) ⟨by simp_all [frQ, frC, bI, nI], rfl⟩
      · refine gl_iconst (v := nI 1) dX0_mayTake_30 (by decide) ?_
        refine gl_goto (tgt := 35) dX0_mayTake_31 (by decide) ?_
        exact gl_zret dX0_mayTake_35 rfl (by decide) ⟨by simp_all [frQ, frC, bI, nI], rfl⟩
theorem lb_card (hL : Lb w n m t) {q : Nat} (hq : q < m) (h : ¬ w (66 + q) = -9) : ∃ c, c < n ∧ w (66 + q) = nI c := by
  rcases hL.by_.1 q hq with e | e
  · exact absurd e h
  · exact e
theorem x_rightMany (hX : RL o τ x w n m t) (hL : Lb w n m t) (how : Int32) : Ct yX0_rightMany gX0_rightMany (L + 16) 0 0 [.ref 1, .int how] (mX o x) (Rt (some (.int (stN w how m))) (mX o x)) := by
  refine Ct.of rfl rfl rfl rfl rfl ?_
  have h7 := hL.c7
  have h7q := hL.q7
  refine gl_iconst (v := nI 0) dX0_rightMany_0 (by decide) ?_
  refine gl_istore_n dX0_rightMany_1 rfl rfl ?_
  refine gl_iconst (v := nI 0) dX0_rightMany_2 (by decide) ?_
  refine gl_istore_n dX0_rightMany_3 rfl rfl ?_
  refine gl_loop (fun k => [some (.ref 1), some (.int how), some (.int (stN w how k)), some (.int (nI k))]) (fun _ => mX o x) m ?_ ?_
  · intro k hk ih
    have eb := hX.by_ k (by omega)
    refine gl_iload_n dX0_rightMany_4 rfl ?_
    refine gl_aload_n dX0_rightMany_5 rfl ?_
    refine gl_get (k := 9) dX0_rightMany_6 rfl (rfl : vwCl[0]? = some (RX0, TX0, 30)) in_X0 (by decide) q122 rfl ?_
    refine gl_icmp_ge (tgt := 46) dX0_rightMany_9 (by decide) (fun h => absurd h ((by rw [hX.askMany]; exact nI_ge hk (by omega)))) (fun _ => ?_)
    refine gl_iload_n dX0_rightMany_12 rfl ?_
    refine gl_aload_n dX0_rightMany_13 rfl ?_
    refine gl_get (k := 12) dX0_rightMany_14 rfl (rfl : vwCl[0]? = some (RX0, TX0, 30)) in_X0 (by decide) q125 rfl ?_
    refine gl_iload_n dX0_rightMany_17 rfl ?_
    refine gl_iald (j := k) dX0_rightMany_18 rfl rfl (by omega) ?_
    refine gl_bipush (v := (-9)) dX0_rightMany_19 (by decide) ?_
    refine gl_icmp_eq (tgt := 37) dX0_rightMany_21 (by decide) (fun h21 => ?_) (fun h21 => ?_)
    · rw [eb] at h21
      refine gl_iconst (v := nI 0) dX0_rightMany_37 (by decide) ?_
      refine gl_iadd dX0_rightMany_38 ?_
      refine gl_istore_n dX0_rightMany_39 rfl rfl ?_
      refine gl_iinc (v := (nI (k + 1))) dX0_rightMany_40 rfl (nI_1 _) rfl rfl ?_
      refine gl_goto (tgt := 4) dX0_rightMany_43 (by decide) ?_
      refine gl_lcs ?_ ih
      simp only [stN, cntI]
      simp [frQ, h21, bI]
    · rw [eb] at h21
      obtain ⟨c, hc, e⟩ := lb_card hL hk h21
      refine gl_aload_n dX0_rightMany_24 rfl ?_
      refine gl_iload_n dX0_rightMany_25 rfl ?_
      refine gl_callV (x_isRight L o x hX hL k c hk hc e) dX0_rightMany_26 q743 q745 qs23 q74 q746 rfl hX0_isRight rfl (rfl : vwCl[0]? = some (RX0, TX0, 30)) rfl rfl (rmOk (by omega) rfl) ⟨by first | exact Nat.le_refl _ | exact Nat.zero_le _ | decide | (dsimp only [rm]; omega), by first | exact Nat.le_refl _ | exact Nat.zero_le _ | decide | (dsimp only [rm]; omega)⟩ (rt1 ?_)
      refine gl_iload_n dX0_rightMany_29 rfl ?_
      refine gl_icmp_ne (tgt := 37) dX0_rightMany_30 (by decide) (fun h30 => ?_) (fun h30 => ?_)
      · refine gl_iconst (v := nI 0) dX0_rightMany_37 (by decide) ?_
        refine gl_iadd dX0_rightMany_38 ?_
        refine gl_istore_n dX0_rightMany_39 rfl rfl ?_
        refine gl_iinc (v := (nI (k + 1))) dX0_rightMany_40 rfl (nI_1 _) rfl rfl ?_
        refine gl_goto (tgt := 4) dX0_rightMany_43 (by decide) ?_
        refine gl_lcs ?_ ih
        simp only [stN, cntI]
        simp [frQ, h21, h30, bI]
      · refine gl_iconst (v := nI 1) dX0_rightMany_33 (by decide) ?_
        refine gl_goto (tgt := 38) dX0_rightMany_34 (by decide) ?_
        refine gl_iadd dX0_rightMany_38 ?_
        refine gl_istore_n dX0_rightMany_39 rfl rfl ?_
        refine gl_iinc (v := (nI (k + 1))) dX0_rightMany_40 rfl (nI_1 _) rfl rfl ?_
        refine gl_goto (tgt := 4) dX0_rightMany_43 (by decide) ?_
        refine gl_lcs ?_ ih
        simp only [stN, cntI]
        simp [frQ, h21, h30, bI]
  · refine gl_iload_n dX0_rightMany_4 rfl ?_
    refine gl_aload_n dX0_rightMany_5 rfl ?_
    refine gl_get (k := 9) dX0_rightMany_6 rfl (rfl : vwCl[0]? = some (RX0, TX0, 30)) in_X0 (by decide) q122 rfl ?_
    refine gl_icmp_ge (tgt := 46) dX0_rightMany_9 (by decide) (fun _ => ?_) (fun h => absurd ((by rw [hX.askMany]; exact nI_le (Nat.le_refl _) (by omega))) h)
    refine gl_iload_n dX0_rightMany_46 rfl ?_
    exact gl_iret dX0_rightMany_47 rfl ⟨rfl, rfl⟩
theorem frC_s (w : Nat → Int32) (k c : Nat) (hk : k < 2 ^ 31) : frC w (k + 1) c = if w (66 + k) = nI c then false else frC w k c := by
  unfold frC
  rw [ansL]
  by_cases h : w (66 + k) = nI c
  · rw [if_pos h, if_pos h]
    simp [nI_ne9 hk]
  · rw [if_neg h, if_neg h]
theorem x_freeCards (hX : RL o τ x w n m t) (hL : Lb w n m t) : Ct yX0_freeCards gX0_freeCards (L + 10) 0 0 [.ref 1] (mX o x) (Rt (some (.int (orI (frC w m) n))) (mX o x)) := by
  refine Ct.of rfl rfl rfl rfl rfl ?_
  have h7 := hL.c7
  have h7q := hL.q7
  refine gl_iconst (v := nI 1) dX0_freeCards_0 (by decide) ?_
  refine gl_aload_n dX0_freeCards_1 rfl ?_
  refine gl_get (k := 7) dX0_freeCards_2 rfl (rfl : vwCl[0]? = some (RX0, TX0, 30)) in_X0 (by decide) q119 rfl ?_
  rw [hX.many]
  refine gl_ishl dX0_freeCards_5 ?_
  refine gl_iconst (v := nI 1) dX0_freeCards_6 (by decide) ?_
  refine gl_isub dX0_freeCards_7 ?_
  refine gl_istore_n dX0_freeCards_8 rfl rfl ?_
  refine gl_iconst (v := nI 0) dX0_freeCards_9 (by decide) ?_
  refine gl_istore_n dX0_freeCards_10 rfl rfl ?_
  refine gl_lcs (lc1 := [some (.ref 1), some (.int (orI (frC w 0) n)), some (.int (nI 0))]) (by
    have e : orI (frC w 0) n = allC n := by
      rw [allC_or n h7]
      exact orI_eq (fun c hc => by rfl)
    rw [e]
    rfl) ?_
  refine gl_loop (fun k => [some (.ref 1), some (.int (orI (frC w k) n)), some (.int (nI k))]) (fun _ => mX o x) m ?_ ?_
  · intro k hk ih
    have eb := hX.by_ k (by omega)
    refine gl_iload_n dX0_freeCards_11 rfl ?_
    refine gl_aload_n dX0_freeCards_12 rfl ?_
    refine gl_get (k := 9) dX0_freeCards_13 rfl (rfl : vwCl[0]? = some (RX0, TX0, 30)) in_X0 (by decide) q122 rfl ?_
    refine gl_icmp_ge (tgt := 53) dX0_freeCards_16 (by decide) (fun h => absurd h ((by rw [hX.askMany]; exact nI_ge hk (by omega)))) (fun _ => ?_)
    refine gl_iload_n dX0_freeCards_19 rfl ?_
    refine gl_aload_n dX0_freeCards_20 rfl ?_
    refine gl_get (k := 12) dX0_freeCards_21 rfl (rfl : vwCl[0]? = some (RX0, TX0, 30)) in_X0 (by decide) q125 rfl ?_
    refine gl_iload_n dX0_freeCards_24 rfl ?_
    refine gl_iald (j := k) dX0_freeCards_25 rfl rfl (by omega) ?_
    refine gl_bipush (v := (-9)) dX0_freeCards_26 (by decide) ?_
    refine gl_icmp_ne (tgt := 35) dX0_freeCards_28 (by decide) (fun h28 => ?_) (fun h28 => ?_)
    · rw [eb] at h28
      obtain ⟨c, hc, e⟩ := lb_card hL hk h28
      refine gl_iconst (v := nI 1) dX0_freeCards_35 (by decide) ?_
      refine gl_aload_n dX0_freeCards_36 rfl ?_
      refine gl_get (k := 12) dX0_freeCards_37 rfl (rfl : vwCl[0]? = some (RX0, TX0, 30)) in_X0 (by decide) q125 rfl ?_
      refine gl_iload_n dX0_freeCards_40 rfl ?_
      refine gl_iald (j := k) dX0_freeCards_41 rfl rfl (by omega) ?_
      rw [eb, e]
      refine gl_ishl dX0_freeCards_42 ?_
      refine gl_iconst (v := (-1)) dX0_freeCards_43 (by decide) ?_
      refine gl_ixor dX0_freeCards_44 ?_
      refine gl_iand dX0_freeCards_45 ?_
      refine gl_istore_n dX0_freeCards_46 rfl rfl ?_
      refine gl_iinc (v := (nI (k + 1))) dX0_freeCards_47 rfl (nI_1 _) rfl rfl ?_
      refine gl_goto (tgt := 11) dX0_freeCards_50 (by decide) ?_
      rw [orI_del _ (by omega) hc]
      refine gl_lcs ?_ ih
      have z : orI (upB (frC w k) c false) n = orI (frC w (k + 1)) n := orI_eq (fun j hj => by
        rw [frC_s w k j (by omega), e]
        unfold upB
        by_cases h : j = c
        · rw [if_pos h, if_pos (by rw [h])]
        · rw [if_neg h, if_neg (fun q => h ((nI_eq (by omega) (by omega)).mp q).symm)])
      rw [z]
      rfl
    · rw [eb] at h28
      refine gl_iconst (v := (-1)) dX0_freeCards_31 (by decide) ?_
      refine gl_goto (tgt := 45) dX0_freeCards_32 (by decide) ?_
      refine gl_iand dX0_freeCards_45 ?_
      refine gl_istore_n dX0_freeCards_46 rfl rfl ?_
      refine gl_iinc (v := (nI (k + 1))) dX0_freeCards_47 rfl (nI_1 _) rfl rfl ?_
      refine gl_goto (tgt := 11) dX0_freeCards_50 (by decide) ?_
      rw [and_m1]
      refine gl_lcs ?_ ih
      have z : orI (frC w k) n = orI (frC w (k + 1)) n := orI_eq (fun j hj => by
        rw [frC_s w k j (by omega), h28, if_neg (fun q => nI_ne9 (c := j) (by omega) q.symm)])
      rw [z]
      rfl
  · refine gl_iload_n dX0_freeCards_11 rfl ?_
    refine gl_aload_n dX0_freeCards_12 rfl ?_
    refine gl_get (k := 9) dX0_freeCards_13 rfl (rfl : vwCl[0]? = some (RX0, TX0, 30)) in_X0 (by decide) q122 rfl ?_
    refine gl_icmp_ge (tgt := 53) dX0_freeCards_16 (by decide) (fun _ => ?_) (fun h => absurd ((by rw [hX.askMany]; exact nI_le (Nat.le_refl _) (by omega))) h)
    refine gl_iload_n dX0_freeCards_53 rfl ?_
    exact gl_iret dX0_freeCards_54 rfl ⟨rfl, rfl⟩
def myB (w : Nat → Int32) (q : Nat) (p : Nat → Bool) (c : Nat) : Bool := frQ w q && fitB w q c && p c && okT w q c
theorem x_mayAnswer (hX : RL o τ x w n m t) (hL : Lb w n m t) (q : Nat) (hq : q < m) (p : Nat → Bool) : Ct yX0_mayAnswer gX0_mayAnswer (L + 18) 0 0 [.ref 1, .int (nI q), .int (orI p n)] (mX o x) (Rt (some (.int (orI (myB w q p) n))) (mX o x)) := by
  refine Ct.of rfl rfl rfl rfl rfl ?_
  have h7 := hL.c7
  have h7q := hL.q7
  have eb := hX.by_ q (by omega)
  have et := hX.truth q (by omega)
  have tl : GL gX0_mayAnswer (rm (L + 18) 0 0) (Rt (some (.int (orI (myB w q p) n))) (mX o x)) 0 0 22 [some (.ref 1), some (.int (nI q)), some (.int (orI p n)), none, none] [.int (orI (fun c => frQ w q && fitB w q c && p c) n)] (mX o x) := by
    by_cases ht : w (59 + q) = -9
    · refine gl_istore_n dX0_mayAnswer_22 rfl rfl ?_
      refine gl_iconst (v := nI 0) dX0_mayAnswer_23 (by decide) ?_
      refine gl_istore dX0_mayAnswer_24 rfl rfl ?_
      refine gl_iload dX0_mayAnswer_26 rfl ?_
      refine gl_aload_n dX0_mayAnswer_28 rfl ?_
      refine gl_get (k := 7) dX0_mayAnswer_29 rfl (rfl : vwCl[0]? = some (RX0, TX0, 30)) in_X0 (by decide) q119 rfl ?_
      by_cases hn : n = 0
      · refine gl_icmp_ge (tgt := 84) dX0_mayAnswer_32 (by decide) (fun _ => ?_) (fun h => absurd ((by rw [hX.many, hn]; exact (by decide : nI 0 ≤ nI 0))) h)
        refine gl_iload_n dX0_mayAnswer_84 rfl ?_
        exact gl_iret dX0_mayAnswer_85 rfl ⟨by rw [orI_eq (fun c hc => show myB w q p c = (frQ w q && fitB w q c && p c) by simp [myB, okT, ht])], rfl⟩
      · refine gl_icmp_ge (tgt := 84) dX0_mayAnswer_32 (by decide) (fun h => absurd h ((by rw [hX.many]; exact nI_ge (a := 0) (by omega) (by omega)))) (fun _ => ?_)
        refine gl_aload_n dX0_mayAnswer_35 rfl ?_
        refine gl_get (k := 11) dX0_mayAnswer_36 rfl (rfl : vwCl[0]? = some (RX0, TX0, 30)) in_X0 (by decide) q124 rfl ?_
        refine gl_iload_n dX0_mayAnswer_39 rfl ?_
        refine gl_iald (j := q) dX0_mayAnswer_40 rfl rfl (by omega) ?_
        refine gl_bipush (v := (-9)) dX0_mayAnswer_41 (by decide) ?_
        refine gl_icmp_eq (tgt := 84) dX0_mayAnswer_43 (by decide) (fun _ => ?_) (fun h => absurd ((et.trans ht)) h)
        refine gl_iload_n dX0_mayAnswer_84 rfl ?_
        exact gl_iret dX0_mayAnswer_85 rfl ⟨by rw [orI_eq (fun c hc => show myB w q p c = (frQ w q && fitB w q c && p c) by simp [myB, okT, ht])], rfl⟩
    · refine gl_istore_n dX0_mayAnswer_22 rfl rfl ?_
      refine gl_iconst (v := nI 0) dX0_mayAnswer_23 (by decide) ?_
      refine gl_istore dX0_mayAnswer_24 rfl rfl ?_
      refine gl_lcs (lc1 := [some (.ref 1), some (.int (nI q)), some (.int (orI p n)), some (.int (orI (fun c => frQ w q && fitB w q c && p c && (decide (0 ≤ c) || okT w q c)) n)), some (.int (nI 0))]) (by
        rw [orI_eq (fun c hc => show (frQ w q && fitB w q c && p c && (decide (0 ≤ c) || okT w q c)) = (frQ w q && fitB w q c && p c) by simp)]
        rfl) ?_
      refine gl_loop (fun k => [some (.ref 1), some (.int (nI q)), some (.int (orI p n)), some (.int (orI (fun c => frQ w q && fitB w q c && p c && (decide (k ≤ c) || okT w q c)) n)), some (.int (nI k))]) (fun _ => mX o x) n ?_ ?_
      · intro k hk ih
        obtain ⟨cd, e, -⟩ := hX.card k hk
        refine gl_iload dX0_mayAnswer_26 rfl ?_
        refine gl_aload_n dX0_mayAnswer_28 rfl ?_
        refine gl_get (k := 7) dX0_mayAnswer_29 rfl (rfl : vwCl[0]? = some (RX0, TX0, 30)) in_X0 (by decide) q119 rfl ?_
        refine gl_icmp_ge (tgt := 84) dX0_mayAnswer_32 (by decide) (fun h => absurd h ((by rw [hX.many]; exact nI_ge hk (by omega)))) (fun _ => ?_)
        refine gl_aload_n dX0_mayAnswer_35 rfl ?_
        refine gl_get (k := 11) dX0_mayAnswer_36 rfl (rfl : vwCl[0]? = some (RX0, TX0, 30)) in_X0 (by decide) q124 rfl ?_
        refine gl_iload_n dX0_mayAnswer_39 rfl ?_
        refine gl_iald (j := q) dX0_mayAnswer_40 rfl rfl (by omega) ?_
        refine gl_bipush (v := (-9)) dX0_mayAnswer_41 (by decide) ?_
        refine gl_icmp_eq (tgt := 84) dX0_mayAnswer_43 (by decide) (fun h => absurd h ((by rw [et]; exact ht))) (fun _ => ?_)
        refine gl_iload_n dX0_mayAnswer_46 rfl ?_
        refine gl_aload_n dX0_mayAnswer_47 rfl ?_
        refine gl_get (k := 8) dX0_mayAnswer_48 rfl (rfl : vwCl[0]? = some (RX0, TX0, 30)) in_X0 (by decide) q121 rfl ?_
        refine gl_iload dX0_mayAnswer_51 rfl ?_
        refine gl_aald (j := k) dX0_mayAnswer_53 rfl rfl (by omega) e ?_
        refine gl_meansW hX hL hk e dX0_mayAnswer_54 q555 (by omega) rfl ⟨by first | exact Nat.le_refl _ | exact Nat.zero_le _ | decide | (dsimp only [rm]; omega), by first | exact Nat.le_refl _ | exact Nat.zero_le _ | decide | (dsimp only [rm]; omega)⟩ ?_
        refine gl_aload_n dX0_mayAnswer_57 rfl ?_
        refine gl_get (k := 11) dX0_mayAnswer_58 rfl (rfl : vwCl[0]? = some (RX0, TX0, 30)) in_X0 (by decide) q124 rfl ?_
        refine gl_iload_n dX0_mayAnswer_61 rfl ?_
        refine gl_iald (j := q) dX0_mayAnswer_62 rfl rfl (by omega) ?_
        refine gl_icmp_ne (tgt := 70) dX0_mayAnswer_63 (by decide) (fun h63 => ?_) (fun h63 => ?_)
        · rw [et] at h63
          refine gl_iconst (v := nI 1) dX0_mayAnswer_70 (by decide) ?_
          refine gl_iload dX0_mayAnswer_71 rfl ?_
          refine gl_ishl dX0_mayAnswer_73 ?_
          refine gl_iconst (v := (-1)) dX0_mayAnswer_74 (by decide) ?_
          refine gl_ixor dX0_mayAnswer_75 ?_
          refine gl_iand dX0_mayAnswer_76 ?_
          refine gl_istore_n dX0_mayAnswer_77 rfl rfl ?_
          refine gl_iinc (v := (nI (k + 1))) dX0_mayAnswer_78 rfl (nI_1 _) rfl rfl ?_
          refine gl_goto (tgt := 26) dX0_mayAnswer_81 (by decide) ?_
          rw [orI_del _ (by omega) hk]
          refine gl_lcs ?_ ih
          have z : orI (upB (fun c => frQ w q && fitB w q c && p c && (decide (k ≤ c) || okT w q c)) k false) n = orI (fun c => frQ w q && fitB w q c && p c && (decide (k + 1 ≤ c) || okT w q c)) n := orI_eq (fun j hj => by
            unfold upB
            by_cases h : j = k
            · rw [if_pos h, h]
              have : okT w q k = false := by
                have h63' : ¬ w (59 + q) = mns w k := fun z => h63 z.symm
                simp [okT, ht, h63']
              simp [this]
            · rw [if_neg h]
              have : decide (k ≤ j) = decide (k + 1 ≤ j) := by
                by_cases h2 : k ≤ j
                · rw [decide_eq_true h2, decide_eq_true (by omega)]
                · rw [decide_eq_false h2, decide_eq_false (by omega)]
              simp only [this])
          rw [z]
          rfl
        · rw [et] at h63
          refine gl_iconst (v := (-1)) dX0_mayAnswer_66 (by decide) ?_
          refine gl_goto (tgt := 76) dX0_mayAnswer_67 (by decide) ?_
          refine gl_iand dX0_mayAnswer_76 ?_
          refine gl_istore_n dX0_mayAnswer_77 rfl rfl ?_
          refine gl_iinc (v := (nI (k + 1))) dX0_mayAnswer_78 rfl (nI_1 _) rfl rfl ?_
          refine gl_goto (tgt := 26) dX0_mayAnswer_81 (by decide) ?_
          rw [and_m1]
          refine gl_lcs ?_ ih
          have z : orI (fun c => frQ w q && fitB w q c && p c && (decide (k ≤ c) || okT w q c)) n = orI (fun c => frQ w q && fitB w q c && p c && (decide (k + 1 ≤ c) || okT w q c)) n := orI_eq (fun j hj => by
            by_cases h : j = k
            · have : okT w q k = true := by simp [okT, h63]
              rw [h, this]
              simp
            · have : decide (k ≤ j) = decide (k + 1 ≤ j) := by
                by_cases h2 : k ≤ j
                · rw [decide_eq_true h2, decide_eq_true (by omega)]
                · rw [decide_eq_false h2, decide_eq_false (by omega)]
              simp only [this])
          rw [z]
          rfl
      · refine gl_iload dX0_mayAnswer_26 rfl ?_
        refine gl_aload_n dX0_mayAnswer_28 rfl ?_
        refine gl_get (k := 7) dX0_mayAnswer_29 rfl (rfl : vwCl[0]? = some (RX0, TX0, 30)) in_X0 (by decide) q119 rfl ?_
        refine gl_icmp_ge (tgt := 84) dX0_mayAnswer_32 (by decide) (fun _ => ?_) (fun h => absurd ((by rw [hX.many]; exact nI_le (Nat.le_refl _) (by omega))) h)
        refine gl_iload_n dX0_mayAnswer_84 rfl ?_
        exact gl_iret dX0_mayAnswer_85 rfl ⟨by rw [orI_eq (fun c hc => show (frQ w q && fitB w q c && p c && (decide (n ≤ c) || okT w q c)) = myB w q p c by simp [myB, show ¬ n ≤ c by omega])], rfl⟩
  refine gl_aload_n dX0_mayAnswer_0 rfl ?_
  refine gl_get (k := 12) dX0_mayAnswer_1 rfl (rfl : vwCl[0]? = some (RX0, TX0, 30)) in_X0 (by decide) q125 rfl ?_
  refine gl_iload_n dX0_mayAnswer_4 rfl ?_
  refine gl_iald (j := q) dX0_mayAnswer_5 rfl rfl (by omega) ?_
  refine gl_bipush (v := (-9)) dX0_mayAnswer_6 (by decide) ?_
  refine gl_icmp_ne (tgt := 21) dX0_mayAnswer_8 (by decide) (fun h8 => ?_) (fun h8 => ?_)
  · rw [eb] at h8
    refine gl_iconst (v := nI 0) dX0_mayAnswer_21 (by decide) ?_
    have z : nI 0 = orI (fun c => frQ w q && fitB w q c && p c) n := (orI_0 _ _ (fun c hc => by simp [frQ, h8])).symm
    rw [z]
    exact tl
  · rw [eb] at h8
    refine gl_aload_n dX0_mayAnswer_11 rfl ?_
    refine gl_iload_n dX0_mayAnswer_12 rfl ?_
    refine gl_callV (x_fitSet L o x hX hL q hq) dX0_mayAnswer_13 q727 q729 qs20 q74 q730 rfl hX0_fitSet rfl (rfl : vwCl[0]? = some (RX0, TX0, 30)) rfl rfl (rmOk (by omega) rfl) ⟨by first | exact Nat.le_refl _ | exact Nat.zero_le _ | decide | (dsimp only [rm]; omega), by first | exact Nat.le_refl _ | exact Nat.zero_le _ | decide | (dsimp only [rm]; omega)⟩ (rt1 ?_)
    refine gl_iload_n dX0_mayAnswer_16 rfl ?_
    refine gl_iand dX0_mayAnswer_17 ?_
    refine gl_goto (tgt := 22) dX0_mayAnswer_18 (by decide) ?_
    have z : fsI w n q &&& orI p n = orI (fun c => frQ w q && fitB w q c && p c) n := by
      unfold fsI
      rw [orI_and _ _ (by omega)]
      exact orI_eq (fun c hc => by simp [frQ, h8])
    rw [z]
    exact tl
theorem x_homeOf (hX : RL o τ x w n m t) (hL : Lb w n m t) (kd : Int32) : Ct yX0_homeOf gX0_homeOf (L + 16) 0 0 [.ref 1, .int kd] (mX o x) (Rt (some (.int (hmI w n kd 3))) (mX o x)) := by
  refine Ct.of rfl rfl rfl rfl rfl ?_
  refine gl_iconst (v := nI 0) dX0_homeOf_0 (by decide) ?_
  refine gl_istore_n dX0_homeOf_1 rfl rfl ?_
  refine gl_iconst (v := nI 1) dX0_homeOf_2 (by decide) ?_
  refine gl_istore_n dX0_homeOf_3 rfl rfl ?_
  refine gl_loop (fun s => [some (.ref 1), some (.int kd), some (.int (hmI w n kd s)), some (.int (nI (s + 1)))]) (fun _ => mX o x) 3 ?_ ?_
  · intro s hs ih
    refine gl_iload_n dX0_homeOf_4 rfl ?_
    refine gl_iconst (v := nI 4) dX0_homeOf_5 (by decide) ?_
    refine gl_icmp_ge (tgt := 36) dX0_homeOf_6 (by decide) (fun h => absurd h (nI_ge (by omega) (by omega))) (fun _ => ?_)
    refine gl_aload_n dX0_homeOf_9 rfl ?_
    refine gl_iload_n dX0_homeOf_10 rfl ?_
    refine gl_iload_n dX0_homeOf_11 rfl ?_
    refine gl_callV (x_kindOn L o x hX hL _ _) dX0_homeOf_12 q931 q933 qs36 q74 q934 rfl hX0_kindOn rfl (rfl : vwCl[0]? = some (RX0, TX0, 30)) rfl rfl (rmOk (by omega) rfl) ⟨by first | exact Nat.le_refl _ | exact Nat.zero_le _ | decide | (dsimp only [rm]; omega), by first | exact Nat.le_refl _ | exact Nat.zero_le _ | decide | (dsimp only [rm]; omega)⟩ (rt1 ?_)
    refine gl_aload_n dX0_homeOf_15 rfl ?_
    refine gl_iload_n dX0_homeOf_16 rfl ?_
    refine gl_iload_n dX0_homeOf_17 rfl ?_
    refine gl_callV (x_kindOn L o x hX hL _ _) dX0_homeOf_18 q931 q933 qs36 q74 q934 rfl hX0_kindOn rfl (rfl : vwCl[0]? = some (RX0, TX0, 30)) rfl rfl (rmOk (by omega) rfl) ⟨by first | exact Nat.le_refl _ | exact Nat.zero_le _ | decide | (dsimp only [rm]; omega), by first | exact Nat.le_refl _ | exact Nat.zero_le _ | decide | (dsimp only [rm]; omega)⟩ (rt1 ?_)
    refine gl_icmp_le (tgt := 28) dX0_homeOf_21 (by decide) (fun h21 => ?_) (fun h21 => ?_)
    · refine gl_iload_n dX0_homeOf_28 rfl ?_
      refine gl_istore_n dX0_homeOf_29 rfl rfl ?_
      refine gl_iinc (v := (nI ((s+1) + 1))) dX0_homeOf_30 rfl (nI_1 _) rfl rfl ?_
      refine gl_goto (tgt := 4) dX0_homeOf_33 (by decide) ?_
      refine gl_lcs ?_ ih; clear ih; simp only [hmI]; (first | rw [if_pos (by assumption)] | rw [if_neg (by assumption)] | rw [if_pos (k2_lt (by assumption))] | rw [if_neg (k2_nlt (by assumption))]); rfl
    · refine gl_iload_n dX0_homeOf_24 rfl ?_
      refine gl_goto (tgt := 29) dX0_homeOf_25 (by decide) ?_
      refine gl_istore_n dX0_homeOf_29 rfl rfl ?_
      refine gl_iinc (v := (nI ((s+1) + 1))) dX0_homeOf_30 rfl (nI_1 _) rfl rfl ?_
      refine gl_goto (tgt := 4) dX0_homeOf_33 (by decide) ?_
      refine gl_lcs ?_ ih; clear ih; simp only [hmI]; (first | rw [if_pos (by assumption)] | rw [if_neg (by assumption)] | rw [if_pos (k2_lt (by assumption))] | rw [if_neg (k2_nlt (by assumption))]); rfl
  · refine gl_iload_n dX0_homeOf_4 rfl ?_
    refine gl_iconst (v := nI 4) dX0_homeOf_5 (by decide) ?_
    refine gl_icmp_ge (tgt := 36) dX0_homeOf_6 (by decide) (fun _ => ?_) (fun h => absurd ((by decide)) h)
    refine gl_iload_n dX0_homeOf_36 rfl ?_
    exact gl_iret dX0_homeOf_37 rfl ⟨rfl, rfl⟩
end XB

