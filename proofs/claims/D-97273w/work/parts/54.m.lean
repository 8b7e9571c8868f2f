/-! the component's readers of a library -/
set_option maxRecDepth 100000
theorem x_has (L : Nat) (μ : Mem) (v : Int32) (k : Nat) (hk : k < 31) : Ct yX0_has gX0_has (L + 10) 0 0 [.int v, .int (nI k)] μ (Rt (some (.int (bI (bit v k)))) μ) := by
  refine Ct.of rfl rfl rfl rfl rfl ?_
  refine gl_iload_n dX0_has_0 rfl ?_
  refine gl_iload_n dX0_has_1 rfl ?_
  refine gl_ishr dX0_has_2 ?_
  refine gl_iconst (v := nI 1) dX0_has_3 (by decide) ?_
  refine gl_iand dX0_has_4 ?_
  refine gl_iconst (v := nI 1) dX0_has_5 (by decide) ?_
  refine gl_icmp_ne (tgt := 13) dX0_has_6 (by decide) (fun h6 => ?_) (fun h6 => ?_)
  · have z : bit v k = false := by
      cases e : bit v k with
      | false => rfl
      | true => exact absurd ((bit_tst k hk v).mpr e) h6
    refine gl_iconst (v := nI 0) dX0_has_13 (by decide) ?_
    exact gl_zret dX0_has_14 rfl (by decide) ⟨by rw [z]; rfl, rfl⟩
  · have z : bit v k = true := (bit_tst k hk v).mp h6
    refine gl_iconst (v := nI 1) dX0_has_9 (by decide) ?_
    refine gl_goto (tgt := 14) dX0_has_10 (by decide) ?_
    exact gl_zret dX0_has_14 rfl (by decide) ⟨by rw [z]; rfl, rfl⟩
section XA
variable (L : Nat) (o : OX) (x : XY) {τ : Nat → Nat} {w : Nat → Int32} {n m t : Nat}
theorem x_isFor (hX : RL o τ x w n m t) (hL : Lb w n m t) (c k : Nat) (hc : c < n) (e : x.2.2.2.1 5 c = some k) (kd f g : Int32) : Ct yX0_isFor gX0_isFor (L + 15) 0 0 [.ref k, .int kd, .int f, .int g] (mX o x) (Rt (some (.int (bI (suB w c kd f g)))) (mX o x)) := by
  refine Ct.of rfl rfl rfl rfl rfl ?_
  refine gl_aload_n dX0_isFor_0 rfl ?_
  refine gl_iload_n dX0_isFor_1 rfl ?_
  refine gl_isW hX hL hc e dX0_isFor_2 q633 (by omega) rfl ⟨by first | exact Nat.le_refl _ | exact Nat.zero_le _ | decide | (dsimp only [rm]; omega), by first | exact Nat.le_refl _ | exact Nat.zero_le _ | decide | (dsimp only [rm]; omega)⟩ ?_
  refine gl_if_eq (tgt := 24) dX0_isFor_5 (by decide) (fun h5 => ?_) (fun h5 => ?_)
  · refine gl_iconst (v := nI 0) dX0_isFor_24 (by decide) ?_
    exact gl_zret dX0_isFor_25 rfl (by decide) ⟨by simp_all [suB, bI, nI], rfl⟩
  · refine gl_aload_n dX0_isFor_8 rfl ?_
    refine gl_meansW hX hL hc e dX0_isFor_9 q555 (by omega) rfl ⟨by first | exact Nat.le_refl _ | exact Nat.zero_le _ | decide | (dsimp only [rm]; omega), by first | exact Nat.le_refl _ | exact Nat.zero_le _ | decide | (dsimp only [rm]; omega)⟩ ?_
    refine gl_iload_n dX0_isFor_12 rfl ?_
    refine gl_iload_n dX0_isFor_13 rfl ?_
    refine gl_callS (x_isIn L _ _ _ _) dX0_isFor_14 q298 q299 q74 q300 rfl hX0_isIn rfl rfl (rmOk (by omega) rfl) ⟨by first | exact Nat.le_refl _ | exact Nat.zero_le _ | decide | (dsimp only [rm]; omega), by first | exact Nat.le_refl _ | exact Nat.zero_le _ | decide | (dsimp only [rm]; omega)⟩ (rt1 ?_)
    refine gl_if_eq (tgt := 24) dX0_isFor_17 (by decide) (fun h17 => ?_) (fun h17 => ?_)
    · refine gl_iconst (v := nI 0) dX0_isFor_24 (by decide) ?_
      exact gl_zret dX0_isFor_25 rfl (by decide) ⟨by simp_all [suB, bI, nI], rfl⟩
    · refine gl_iconst (v := nI 1) dX0_isFor_20 (by decide) ?_
      refine gl_goto (tgt := 25) dX0_isFor_21 (by decide) ?_
      exact gl_zret dX0_isFor_25 rfl (by decide) ⟨by simp_all [suB, bI, nI], rfl⟩
theorem x_doesFit (hX : RL o τ x w n m t) (hL : Lb w n m t) (c q : Nat) (hc : c < n) (hq : q < m) : Ct yX0_doesFit gX0_doesFit (L + 16) 0 0 [.ref 1, .int (nI c), .int (nI q)] (mX o x) (Rt (some (.int (bI (fitB w q c)))) (mX o x)) := by
  refine Ct.of rfl rfl rfl rfl rfl ?_
  have h7 := hL.c7
  have h7q := hL.q7
  obtain ⟨k, e, -⟩ := hX.card c hc
  refine gl_aload_n dX0_doesFit_0 rfl ?_
  refine gl_get (k := 8) dX0_doesFit_1 rfl (rfl : vwCl[0]? = some (RX0, TX0, 30)) in_X0 (by decide) q121 rfl ?_
  refine gl_iload_n dX0_doesFit_4 rfl ?_
  refine gl_aald (j := c) dX0_doesFit_5 rfl rfl (by omega) e ?_
  refine gl_aload_n dX0_doesFit_6 rfl ?_
  refine gl_iload_n dX0_doesFit_7 rfl ?_
  refine gl_iconst (v := nI 0) dX0_doesFit_8 (by decide) ?_
  refine gl_callV (x_askOf L o x hX (q) (0) (by omega) (by omega) (by omega)) dX0_doesFit_9 q600 q602 qs14 q74 q603 rfl hX0_askOf rfl (rfl : vwCl[0]? = some (RX0, TX0, 30)) rfl rfl (rmOk (by omega) rfl) ⟨by first | exact Nat.le_refl _ | exact Nat.zero_le _ | decide | (dsimp only [rm]; omega), by first | exact Nat.le_refl _ | exact Nat.zero_le _ | decide | (dsimp only [rm]; omega)⟩ (rt1 ?_)
  refine gl_aload_n dX0_doesFit_12 rfl ?_
  refine gl_iload_n dX0_doesFit_13 rfl ?_
  refine gl_iconst (v := nI 1) dX0_doesFit_14 (by decide) ?_
  refine gl_callV (x_askOf L o x hX (q) (1) (by omega) (by omega) (by omega)) dX0_doesFit_15 q600 q602 qs14 q74 q603 rfl hX0_askOf rfl (rfl : vwCl[0]? = some (RX0, TX0, 30)) rfl rfl (rmOk (by omega) rfl) ⟨by first | exact Nat.le_refl _ | exact Nat.zero_le _ | decide | (dsimp only [rm]; omega), by first | exact Nat.le_refl _ | exact Nat.zero_le _ | decide | (dsimp only [rm]; omega)⟩ (rt1 ?_)
  refine gl_aload_n dX0_doesFit_18 rfl ?_
  refine gl_iload_n dX0_doesFit_19 rfl ?_
  refine gl_iconst (v := nI 2) dX0_doesFit_20 (by decide) ?_
  refine gl_callV (x_askOf L o x hX (q) (2) (by omega) (by omega) (by omega)) dX0_doesFit_21 q600 q602 qs14 q74 q603 rfl hX0_askOf rfl (rfl : vwCl[0]? = some (RX0, TX0, 30)) rfl rfl (rmOk (by omega) rfl) ⟨by first | exact Nat.le_refl _ | exact Nat.zero_le _ | decide | (dsimp only [rm]; omega), by first | exact Nat.le_refl _ | exact Nat.zero_le _ | decide | (dsimp only [rm]; omega)⟩ (rt1 ?_)
  refine gl_callS (x_isFor L o x hX hL c k hc e _ _ _) dX0_doesFit_24 q690 q691 q74 q692 rfl hX0_isFor rfl rfl (rmOk (by omega) rfl) ⟨by first | exact Nat.le_refl _ | exact Nat.zero_le _ | decide | (dsimp only [rm]; omega), by first | exact Nat.le_refl _ | exact Nat.zero_le _ | decide | (dsimp only [rm]; omega)⟩ (rt1 ?_)
  exact gl_zret dX0_doesFit_27 rfl (bI_1 _) ⟨rfl, rfl⟩
theorem x_fitSet (hX : RL o τ x w n m t) (hL : Lb w n m t) (q : Nat) (hq : q < m) : Ct yX0_fitSet gX0_fitSet (L + 17) 0 0 [.ref 1, .int (nI q)] (mX o x) (Rt (some (.int (fsI w n q))) (mX o x)) := by
  refine Ct.of rfl rfl rfl rfl rfl ?_
  have h7 := hL.c7
  have h7q := hL.q7
  unfold fsI
  refine gl_iconst (v := nI 0) dX0_fitSet_0 (by decide) ?_
  refine gl_istore_n dX0_fitSet_1 rfl rfl ?_
  refine gl_iconst (v := nI 0) dX0_fitSet_2 (by decide) ?_
  refine gl_istore_n dX0_fitSet_3 rfl rfl ?_
  refine gl_loop (fun k => [some (.ref 1), some (.int (nI q)), some (.int (orI (fun c => fitB w q c) k)), some (.int (nI k))]) (fun _ => mX o x) n ?_ ?_
  · intro k hk ih
    refine gl_iload_n dX0_fitSet_4 rfl ?_
    refine gl_aload_n dX0_fitSet_5 rfl ?_
    refine gl_get (k := 7) dX0_fitSet_6 rfl (rfl : vwCl[0]? = some (RX0, TX0, 30)) in_X0 (by decide) q119 rfl ?_
    refine gl_icmp_ge (tgt := 37) dX0_fitSet_9 (by decide) (fun h => absurd h ((by rw [hX.many]; exact nI_ge hk (by omega)))) (fun _ => ?_)
    refine gl_iload_n dX0_fitSet_12 rfl ?_
    refine gl_aload_n dX0_fitSet_13 rfl ?_
    refine gl_iload_n dX0_fitSet_14 rfl ?_
    refine gl_iload_n dX0_fitSet_15 rfl ?_
    refine gl_callV (x_doesFit L o x hX hL (k) (q) (by omega) (by omega)) dX0_fitSet_16 q686 q688 qs18 q74 q689 rfl hX0_doesFit rfl (rfl : vwCl[0]? = some (RX0, TX0, 30)) rfl rfl (rmOk (by omega) rfl) ⟨by first | exact Nat.le_refl _ | exact Nat.zero_le _ | decide | (dsimp only [rm]; omega), by first | exact Nat.le_refl _ | exact Nat.zero_le _ | decide | (dsimp only [rm]; omega)⟩ (rt1 ?_)
    refine gl_if_eq (tgt := 28) dX0_fitSet_19 (by decide) (fun h19 => ?_) (fun h19 => ?_)
    · refine gl_iconst (v := nI 0) dX0_fitSet_28 (by decide) ?_
      refine gl_ior dX0_fitSet_29 ?_
      refine gl_istore_n dX0_fitSet_30 rfl rfl ?_
      refine gl_iinc (v := (nI (k + 1))) dX0_fitSet_31 rfl (nI_1 _) rfl rfl ?_
      refine gl_goto (tgt := 4) dX0_fitSet_34 (by decide) ?_
      refine gl_lcs ?_ ih; clear ih; simp_all [orI, bI_ne] <;> rfl
    · refine gl_iconst (v := nI 1) dX0_fitSet_22 (by decide) ?_
      refine gl_iload_n dX0_fitSet_23 rfl ?_
      refine gl_ishl dX0_fitSet_24 ?_
      refine gl_goto (tgt := 29) dX0_fitSet_25 (by decide) ?_
      refine gl_ior dX0_fitSet_29 ?_
      refine gl_istore_n dX0_fitSet_30 rfl rfl ?_
      refine gl_iinc (v := (nI (k + 1))) dX0_fitSet_31 rfl (nI_1 _) rfl rfl ?_
      refine gl_goto (tgt := 4) dX0_fitSet_34 (by decide) ?_
      refine gl_lcs ?_ ih; clear ih; simp_all [orI, bI_ne] <;> rfl
  · refine gl_iload_n dX0_fitSet_4 rfl ?_
    refine gl_aload_n dX0_fitSet_5 rfl ?_
    refine gl_get (k := 7) dX0_fitSet_6 rfl (rfl : vwCl[0]? = some (RX0, TX0, 30)) in_X0 (by decide) q119 rfl ?_
    refine gl_icmp_ge (tgt := 37) dX0_fitSet_9 (by decide) (fun _ => ?_) (fun h => absurd ((by rw [hX.many]; exact nI_le (Nat.le_refl _) (by omega))) h)
    refine gl_iload_n dX0_fitSet_37 rfl ?_
    exact gl_iret dX0_fitSet_38 rfl ⟨rfl, rfl⟩
theorem x_fitted (hX : RL o τ x w n m t) (hL : Lb w n m t) (c : Nat) (hc : c < n) : Ct yX0_fitted gX0_fitted (L + 17) 0 0 [.ref 1, .int (nI c)] (mX o x) (Rt (some (.int (ftN w c m))) (mX o x)) := by
  refine Ct.of rfl rfl rfl rfl rfl ?_
  have h7 := hL.c7
  have h7q := hL.q7
  unfold ftN
  refine gl_iconst (v := nI 0) dX0_fitted_0 (by decide) ?_
  refine gl_istore_n dX0_fitted_1 rfl rfl ?_
  refine gl_iconst (v := nI 0) dX0_fitted_2 (by decide) ?_
  refine gl_istore_n dX0_fitted_3 rfl rfl ?_
  refine gl_loop (fun k => [some (.ref 1), some (.int (nI c)), some (.int (cntI (fun q => fitB w q c) k)), some (.int (nI k))]) (fun _ => mX o x) m ?_ ?_
  · intro k hk ih
    refine gl_iload_n dX0_fitted_4 rfl ?_
    refine gl_aload_n dX0_fitted_5 rfl ?_
    refine gl_get (k := 9) dX0_fitted_6 rfl (rfl : vwCl[0]? = some (RX0, TX0, 30)) in_X0 (by decide) q122 rfl ?_
    refine gl_icmp_ge (tgt := 35) dX0_fitted_9 (by decide) (fun h => absurd h ((by rw [hX.askMany]; exact nI_ge hk (by omega)))) (fun _ => ?_)
    refine gl_iload_n dX0_fitted_12 rfl ?_
    refine gl_aload_n dX0_fitted_13 rfl ?_
    refine gl_iload_n dX0_fitted_14 rfl ?_
    refine gl_iload_n dX0_fitted_15 rfl ?_
    refine gl_callV (x_doesFit L o x hX hL (c) (k) (by omega) (by omega)) dX0_fitted_16 q686 q688 qs18 q74 q689 rfl hX0_doesFit rfl (rfl : vwCl[0]? = some (RX0, TX0, 30)) rfl rfl (rmOk (by omega) rfl) ⟨by first | exact Nat.le_refl _ | exact Nat.zero_le _ | decide | (dsimp only [rm]; omega), by first | exact Nat.le_refl _ | exact Nat.zero_le _ | decide | (dsimp only [rm]; omega)⟩ (rt1 ?_)
    refine gl_if_eq (tgt := 26) dX0_fitted_19 (by decide) (fun h19 => ?_) (fun h19 => ?_)
    · refine gl_iconst (v := nI 0) dX0_fitted_26 (by decide) ?_
      refine gl_iadd dX0_fitted_27 ?_
      refine gl_istore_n dX0_fitted_28 rfl rfl ?_
      refine gl_iinc (v := (nI (k + 1))) dX0_fitted_29 rfl (nI_1 _) rfl rfl ?_
      refine gl_goto (tgt := 4) dX0_fitted_32 (by decide) ?_
      refine gl_lcs ?_ ih; clear ih; simp_all [cntI, bI, nI] <;> rfl
    · refine gl_iconst (v := nI 1) dX0_fitted_22 (by decide) ?_
      refine gl_goto (tgt := 27) dX0_fitted_23 (by decide) ?_
      refine gl_iadd dX0_fitted_27 ?_
      refine gl_istore_n dX0_fitted_28 rfl rfl ?_
      refine gl_iinc (v := (nI (k + 1))) dX0_fitted_29 rfl (nI_1 _) rfl rfl ?_
      refine gl_goto (tgt := 4) dX0_fitted_32 (by decide) ?_
      refine gl_lcs ?_ ih; clear ih; simp_all [cntI, bI, nI] <;> rfl
  · refine gl_iload_n dX0_fitted_4 rfl ?_
    refine gl_aload_n dX0_fitted_5 rfl ?_
    refine gl_get (k := 9) dX0_fitted_6 rfl (rfl : vwCl[0]? = some (RX0, TX0, 30)) in_X0 (by decide) q122 rfl ?_
    refine gl_icmp_ge (tgt := 35) dX0_fitted_9 (by decide) (fun _ => ?_) (fun h => absurd ((by rw [hX.askMany]; exact nI_le (Nat.le_refl _) (by omega))) h)
    refine gl_iload_n dX0_fitted_35 rfl ?_
    exact gl_iret dX0_fitted_36 rfl ⟨rfl, rfl⟩
theorem x_meaning (hX : RL o τ x w n m t) (hL : Lb w n m t) (kd v : Int32) : Ct yX0_meaning gX0_meaning (L + 15) 0 0 [.ref 1, .int kd, .int v] (mX o x) (Rt (some (.int (cntI (fun c => isOf (w (3 + c)) kd && mns w c == v) n))) (mX o x)) := by
  refine Ct.of rfl rfl rfl rfl rfl ?_
  have h7 := hL.c7
  refine gl_iconst (v := nI 0) dX0_meaning_0 (by decide) ?_
  refine gl_istore_n dX0_meaning_1 rfl rfl ?_
  refine gl_iconst (v := nI 0) dX0_meaning_2 (by decide) ?_
  refine gl_istore dX0_meaning_3 rfl rfl ?_
  refine gl_loop (fun k => [some (.ref 1), some (.int kd), some (.int v), some (.int (cntI (fun c => isOf (w (3 + c)) kd && mns w c == v) k)), some (.int (nI k))]) (fun _ => mX o x) n ?_ ?_
  · intro k hk ih
    obtain ⟨p, e, -⟩ := hX.card k hk
    refine gl_iload dX0_meaning_5 rfl ?_
    refine gl_aload_n dX0_meaning_7 rfl ?_
    refine gl_get (k := 7) dX0_meaning_8 rfl (rfl : vwCl[0]? = some (RX0, TX0, 30)) in_X0 (by decide) q119 rfl ?_
    refine gl_icmp_ge (tgt := 56) dX0_meaning_11 (by decide) (fun h => absurd h ((by rw [hX.many]; exact nI_ge hk (by omega)))) (fun _ => ?_)
    refine gl_iload_n dX0_meaning_14 rfl ?_
    refine gl_aload_n dX0_meaning_15 rfl ?_
    refine gl_get (k := 8) dX0_meaning_16 rfl (rfl : vwCl[0]? = some (RX0, TX0, 30)) in_X0 (by decide) q121 rfl ?_
    refine gl_iload dX0_meaning_19 rfl ?_
    refine gl_aald (j := k) dX0_meaning_21 rfl rfl (by omega) e ?_
    refine gl_iload_n dX0_meaning_22 rfl ?_
    refine gl_isW hX hL hk e dX0_meaning_23 q633 (by omega) rfl ⟨by first | exact Nat.le_refl _ | exact Nat.zero_le _ | decide | (dsimp only [rm]; omega), by first | exact Nat.le_refl _ | exact Nat.zero_le _ | decide | (dsimp only [rm]; omega)⟩ ?_
    refine gl_if_eq (tgt := 47) dX0_meaning_26 (by decide) (fun h26 => ?_) (fun h26 => ?_)
    · refine gl_iconst (v := nI 0) dX0_meaning_47 (by decide) ?_
      refine gl_iadd dX0_meaning_48 ?_
      refine gl_istore_n dX0_meaning_49 rfl rfl ?_
      refine gl_iinc (v := (nI (k + 1))) dX0_meaning_50 rfl (nI_1 _) rfl rfl ?_
      refine gl_goto (tgt := 5) dX0_meaning_53 (by decide) ?_
      refine gl_lcs ?_ ih; clear ih; simp_all [cntI, bI, nI] <;> rfl
    · refine gl_aload_n dX0_meaning_29 rfl ?_
      refine gl_get (k := 8) dX0_meaning_30 rfl (rfl : vwCl[0]? = some (RX0, TX0, 30)) in_X0 (by decide) q121 rfl ?_
      refine gl_iload dX0_meaning_33 rfl ?_
      refine gl_aald (j := k) dX0_meaning_35 rfl rfl (by omega) e ?_
      refine gl_meansW hX hL hk e dX0_meaning_36 q555 (by omega) rfl ⟨by first | exact Nat.le_refl _ | exact Nat.zero_le _ | decide | (dsimp only [rm]; omega), by first | exact Nat.le_refl _ | exact Nat.zero_le _ | decide | (dsimp only [rm]; omega)⟩ ?_
      refine gl_iload_n dX0_meaning_39 rfl ?_
      refine gl_icmp_ne (tgt := 47) dX0_meaning_40 (by decide) (fun h40 => ?_) (fun h40 => ?_)
      · refine gl_iconst (v := nI 0) dX0_meaning_47 (by decide) ?_
        refine gl_iadd dX0_meaning_48 ?_
        refine gl_istore_n dX0_meaning_49 rfl rfl ?_
        refine gl_iinc (v := (nI (k + 1))) dX0_meaning_50 rfl (nI_1 _) rfl rfl ?_
        refine gl_goto (tgt := 5) dX0_meaning_53 (by decide) ?_
        refine gl_lcs ?_ ih; clear ih; simp_all [cntI, bI, nI] <;> rfl
      · refine gl_iconst (v := nI 1) dX0_meaning_43 (by decide) ?_
        refine gl_goto (tgt := 48) dX0_meaning_44 (by decide) ?_
        refine gl_iadd dX0_meaning_48 ?_
        refine gl_istore_n dX0_meaning_49 rfl rfl ?_
        refine gl_iinc (v := (nI (k + 1))) dX0_meaning_50 rfl (nI_1 _) rfl rfl ?_
        refine gl_goto (tgt := 5) dX0_meaning_53 (by decide) ?_
        refine gl_lcs ?_ ih; clear ih; simp_all [cntI, bI, nI] <;> rfl
  · refine gl_iload dX0_meaning_5 rfl ?_
    refine gl_aload_n dX0_meaning_7 rfl ?_
    refine gl_get (k := 7) dX0_meaning_8 rfl (rfl : vwCl[0]? = some (RX0, TX0, 30)) in_X0 (by decide) q119 rfl ?_
    refine gl_icmp_ge (tgt := 56) dX0_meaning_11 (by decide) (fun _ => ?_) (fun h => absurd ((by rw [hX.many]; exact nI_le (Nat.le_refl _) (by omega))) h)
    refine gl_iload_n dX0_meaning_56 rfl ?_
    exact gl_iret dX0_meaning_57 rfl ⟨rfl, rfl⟩
theorem x_saying (hX : RL o τ x w n m t) (hL : Lb w n m t) (kd v : Int32) : Ct yX0_saying gX0_saying (L + 15) 0 0 [.ref 1, .int kd, .int v] (mX o x) (Rt (some (.int (cntI (fun c => isOf (w (3 + c)) kd && w (10 + c) == v) n))) (mX o x)) := by
  refine Ct.of rfl rfl rfl rfl rfl ?_
  have h7 := hL.c7
  refine gl_iconst (v := nI 0) dX0_saying_0 (by decide) ?_
  refine gl_istore_n dX0_saying_1 rfl rfl ?_
  refine gl_iconst (v := nI 0) dX0_saying_2 (by decide) ?_
  refine gl_istore dX0_saying_3 rfl rfl ?_
  refine gl_loop (fun k => [some (.ref 1), some (.int kd), some (.int v), some (.int (cntI (fun c => isOf (w (3 + c)) kd && w (10 + c) == v) k)), some (.int (nI k))]) (fun _ => mX o x) n ?_ ?_
  · intro k hk ih
    obtain ⟨p, e, -⟩ := hX.card k hk
    refine gl_iload dX0_saying_5 rfl ?_
    refine gl_aload_n dX0_saying_7 rfl ?_
    refine gl_get (k := 7) dX0_saying_8 rfl (rfl : vwCl[0]? = some (RX0, TX0, 30)) in_X0 (by decide) q119 rfl ?_
    refine gl_icmp_ge (tgt := 56) dX0_saying_11 (by decide) (fun h => absurd h ((by rw [hX.many]; exact nI_ge hk (by omega)))) (fun _ => ?_)
    refine gl_iload_n dX0_saying_14 rfl ?_
    refine gl_aload_n dX0_saying_15 rfl ?_
    refine gl_get (k := 8) dX0_saying_16 rfl (rfl : vwCl[0]? = some (RX0, TX0, 30)) in_X0 (by decide) q121 rfl ?_
    refine gl_iload dX0_saying_19 rfl ?_
    refine gl_aald (j := k) dX0_saying_21 rfl rfl (by omega) e ?_
    refine gl_iload_n dX0_saying_22 rfl ?_
    refine gl_isW hX hL hk e dX0_saying_23 q633 (by omega) rfl ⟨by first | exact Nat.le_refl _ | exact Nat.zero_le _ | decide | (dsimp only [rm]; omega), by first | exact Nat.le_refl _ | exact Nat.zero_le _ | decide | (dsimp only [rm]; omega)⟩ ?_
    refine gl_if_eq (tgt := 47) dX0_saying_26 (by decide) (fun h26 => ?_) (fun h26 => ?_)
    · refine gl_iconst (v := nI 0) dX0_saying_47 (by decide) ?_
      refine gl_iadd dX0_saying_48 ?_
      refine gl_istore_n dX0_saying_49 rfl rfl ?_
      refine gl_iinc (v := (nI (k + 1))) dX0_saying_50 rfl (nI_1 _) rfl rfl ?_
      refine gl_goto (tgt := 5) dX0_saying_53 (by decide) ?_
      refine gl_lcs ?_ ih; clear ih; simp_all [cntI, bI, nI] <;> rfl
    · refine gl_aload_n dX0_saying_29 rfl ?_
      refine gl_get (k := 8) dX0_saying_30 rfl (rfl : vwCl[0]? = some (RX0, TX0, 30)) in_X0 (by decide) q121 rfl ?_
      refine gl_iload dX0_saying_33 rfl ?_
      refine gl_aald (j := k) dX0_saying_35 rfl rfl (by omega) e ?_
      refine gl_saysW hX hL hk e dX0_saying_36 q545 (by omega) rfl ⟨by first | exact Nat.le_refl _ | exact Nat.zero_le _ | decide | (dsimp only [rm]; omega), by first | exact Nat.le_refl _ | exact Nat.zero_le _ | decide | (dsimp only [rm]; omega)⟩ ?_
      refine gl_iload_n dX0_saying_39 rfl ?_
      refine gl_icmp_ne (tgt := 47) dX0_saying_40 (by decide) (fun h40 => ?_) (fun h40 => ?_)
      · refine gl_iconst (v := nI 0) dX0_saying_47 (by decide) ?_
        refine gl_iadd dX0_saying_48 ?_
        refine gl_istore_n dX0_saying_49 rfl rfl ?_
        refine gl_iinc (v := (nI (k + 1))) dX0_saying_50 rfl (nI_1 _) rfl rfl ?_
        refine gl_goto (tgt := 5) dX0_saying_53 (by decide) ?_
        refine gl_lcs ?_ ih; clear ih; simp_all [cntI, bI, nI] <;> rfl
      · refine gl_iconst (v := nI 1) dX0_saying_43 (by decide) ?_
        refine gl_goto (tgt := 48) dX0_saying_44 (by decide) ?_
        refine gl_iadd dX0_saying_48 ?_
        refine gl_istore_n dX0_saying_49 rfl rfl ?_
        refine gl_iinc (v := (nI (k + 1))) dX0_saying_50 rfl (nI_1 _) rfl rfl ?_
        refine gl_goto (tgt := 5) dX0_saying_53 (by decide) ?_
        refine gl_lcs ?_ ih; clear ih; simp_all [cntI, bI, nI] <;> rfl
  · refine gl_iload dX0_saying_5 rfl ?_
    refine gl_aload_n dX0_saying_7 rfl ?_
    refine gl_get (k := 7) dX0_saying_8 rfl (rfl : vwCl[0]? = some (RX0, TX0, 30)) in_X0 (by decide) q119 rfl ?_
    refine gl_icmp_ge (tgt := 56) dX0_saying_11 (by decide) (fun _ => ?_) (fun h => absurd ((by rw [hX.many]; exact nI_le (Nat.le_refl _) (by omega))) h)
    refine gl_iload_n dX0_saying_56 rfl ?_
    exact gl_iret dX0_saying_57 rfl ⟨rfl, rfl⟩
theorem x_onShelf (hX : RL o τ x w n m t) (hL : Lb w n m t) (s : Int32) : Ct yX0_onShelf gX0_onShelf (L + 15) 0 0 [.ref 1, .int s] (mX o x) (Rt (some (.int (cntI (fun c => w (17 + c) == s) n))) (mX o x)) := by
  refine Ct.of rfl rfl rfl rfl rfl ?_
  have h7 := hL.c7
  refine gl_iconst (v := nI 0) dX0_onShelf_0 (by decide) ?_
  refine gl_istore_n dX0_onShelf_1 rfl rfl ?_
  refine gl_iconst (v := nI 0) dX0_onShelf_2 (by decide) ?_
  refine gl_istore_n dX0_onShelf_3 rfl rfl ?_
  refine gl_loop (fun k => [some (.ref 1), some (.int s), some (.int (cntI (fun c => w (17 + c) == s) k)), some (.int (nI k))]) (fun _ => mX o x) n ?_ ?_
  · intro k hk ih
    obtain ⟨p, e, -⟩ := hX.card k hk
    refine gl_iload_n dX0_onShelf_4 rfl ?_
    refine gl_aload_n dX0_onShelf_5 rfl ?_
    refine gl_get (k := 7) dX0_onShelf_6 rfl (rfl : vwCl[0]? = some (RX0, TX0, 30)) in_X0 (by decide) q119 rfl ?_
    refine gl_icmp_ge (tgt := 39) dX0_onShelf_9 (by decide) (fun h => absurd h ((by rw [hX.many]; exact nI_ge hk (by omega)))) (fun _ => ?_)
    refine gl_iload_n dX0_onShelf_12 rfl ?_
    refine gl_aload_n dX0_onShelf_13 rfl ?_
    refine gl_get (k := 8) dX0_onShelf_14 rfl (rfl : vwCl[0]? = some (RX0, TX0, 30)) in_X0 (by decide) q121 rfl ?_
    refine gl_iload_n dX0_onShelf_17 rfl ?_
    refine gl_aald (j := k) dX0_onShelf_18 rfl rfl (by omega) e ?_
    refine gl_shelfW hX hL hk e dX0_onShelf_19 n450 ?_
    refine gl_iload_n dX0_onShelf_22 rfl ?_
    refine gl_icmp_ne (tgt := 30) dX0_onShelf_23 (by decide) (fun h23 => ?_) (fun h23 => ?_)
    · refine gl_iconst (v := nI 0) dX0_onShelf_30 (by decide) ?_
      refine gl_iadd dX0_onShelf_31 ?_
      refine gl_istore_n dX0_onShelf_32 rfl rfl ?_
      refine gl_iinc (v := (nI (k + 1))) dX0_onShelf_33 rfl (nI_1 _) rfl rfl ?_
      refine gl_goto (tgt := 4) dX0_onShelf_36 (by decide) ?_
      refine gl_lcs ?_ ih; clear ih; simp_all [cntI, bI, nI] <;> rfl
    · refine gl_iconst (v := nI 1) dX0_onShelf_26 (by decide) ?_
      refine gl_goto (tgt := 31) dX0_onShelf_27 (by decide) ?_
      refine gl_iadd dX0_onShelf_31 ?_
      refine gl_istore_n dX0_onShelf_32 rfl rfl ?_
      refine gl_iinc (v := (nI (k + 1))) dX0_onShelf_33 rfl (nI_1 _) rfl rfl ?_
      refine gl_goto (tgt := 4) dX0_onShelf_36 (by decide) ?_
      refine gl_lcs ?_ ih; clear ih; simp_all [cntI, bI, nI] <;> rfl
  · refine gl_iload_n dX0_onShelf_4 rfl ?_
    refine gl_aload_n dX0_onShelf_5 rfl ?_
    refine gl_get (k := 7) dX0_onShelf_6 rfl (rfl : vwCl[0]? = some (RX0, TX0, 30)) in_X0 (by decide) q119 rfl ?_
    refine gl_icmp_ge (tgt := 39) dX0_onShelf_9 (by decide) (fun _ => ?_) (fun h => absurd ((by rw [hX.many]; exact nI_le (Nat.le_refl _) (by omega))) h)
    refine gl_iload_n dX0_onShelf_39 rfl ?_
    exact gl_iret dX0_onShelf_40 rfl ⟨rfl, rfl⟩
theorem x_kindOn (hX : RL o τ x w n m t) (hL : Lb w n m t) (kd s : Int32) : Ct yX0_kindOn gX0_kindOn (L + 15) 0 0 [.ref 1, .int kd, .int s] (mX o x) (Rt (some (.int (lyN w kd s n))) (mX o x)) := by
  refine Ct.of rfl rfl rfl rfl rfl ?_
  have h7 := hL.c7
  unfold lyN
  refine gl_iconst (v := nI 0) dX0_kindOn_0 (by decide) ?_
  refine gl_istore_n dX0_kindOn_1 rfl rfl ?_
  refine gl_iconst (v := nI 0) dX0_kindOn_2 (by decide) ?_
  refine gl_istore dX0_kindOn_3 rfl rfl ?_
  refine gl_loop (fun k => [some (.ref 1), some (.int kd), some (.int s), some (.int (cntI (fun c => w (3 + c) == kd && w (17 + c) == s) k)), some (.int (nI k))]) (fun _ => mX o x) n ?_ ?_
  · intro k hk ih
    obtain ⟨p, e, -⟩ := hX.card k hk
    refine gl_iload dX0_kindOn_5 rfl ?_
    refine gl_aload_n dX0_kindOn_7 rfl ?_
    refine gl_get (k := 7) dX0_kindOn_8 rfl (rfl : vwCl[0]? = some (RX0, TX0, 30)) in_X0 (by decide) q119 rfl ?_
    refine gl_icmp_ge (tgt := 56) dX0_kindOn_11 (by decide) (fun h => absurd h ((by rw [hX.many]; exact nI_ge hk (by omega)))) (fun _ => ?_)
    refine gl_iload_n dX0_kindOn_14 rfl ?_
    refine gl_aload_n dX0_kindOn_15 rfl ?_
    refine gl_get (k := 8) dX0_kindOn_16 rfl (rfl : vwCl[0]? = some (RX0, TX0, 30)) in_X0 (by decide) q121 rfl ?_
    refine gl_iload dX0_kindOn_19 rfl ?_
    refine gl_aald (j := k) dX0_kindOn_21 rfl rfl (by omega) e ?_
    refine gl_kindW hX hL hk e dX0_kindOn_22 q525 (by omega) rfl ⟨by first | exact Nat.le_refl _ | exact Nat.zero_le _ | decide | (dsimp only [rm]; omega), by first | exact Nat.le_refl _ | exact Nat.zero_le _ | decide | (dsimp only [rm]; omega)⟩ ?_
    refine gl_iload_n dX0_kindOn_25 rfl ?_
    refine gl_icmp_ne (tgt := 47) dX0_kindOn_26 (by decide) (fun h26 => ?_) (fun h26 => ?_)
    · refine gl_iconst (v := nI 0) dX0_kindOn_47 (by decide) ?_
      refine gl_iadd dX0_kindOn_48 ?_
      refine gl_istore_n dX0_kindOn_49 rfl rfl ?_
      refine gl_iinc (v := (nI (k + 1))) dX0_kindOn_50 rfl (nI_1 _) rfl rfl ?_
      refine gl_goto (tgt := 5) dX0_kindOn_53 (by decide) ?_
      refine gl_lcs ?_ ih; clear ih; simp_all [cntI, bI, nI] <;> rfl
    · refine gl_aload_n dX0_kindOn_29 rfl ?_
      refine gl_get (k := 8) dX0_kindOn_30 rfl (rfl : vwCl[0]? = some (RX0, TX0, 30)) in_X0 (by decide) q121 rfl ?_
      refine gl_iload dX0_kindOn_33 rfl ?_
      refine gl_aald (j := k) dX0_kindOn_35 rfl rfl (by omega) e ?_
      refine gl_shelfW hX hL hk e dX0_kindOn_36 n450 ?_
      refine gl_iload_n dX0_kindOn_39 rfl ?_
      refine gl_icmp_ne (tgt := 47) dX0_kindOn_40 (by decide) (fun h40 => ?_) (fun h40 => ?_)
      · refine gl_iconst (v := nI 0) dX0_kindOn_47 (by decide) ?_
        refine gl_iadd dX0_kindOn_48 ?_
        refine gl_istore_n dX0_kindOn_49 rfl rfl ?_
        refine gl_iinc (v := (nI (k + 1))) dX0_kindOn_50 rfl (nI_1 _) rfl rfl ?_
        refine gl_goto (tgt := 5) dX0_kindOn_53 (by decide) ?_
        refine gl_lcs ?_ ih; clear ih; simp_all [cntI, bI, nI] <;> rfl
      · refine gl_iconst (v := nI 1) dX0_kindOn_43 (by decide) ?_
        refine gl_goto (tgt := 48) dX0_kindOn_44 (by decide) ?_
        refine gl_iadd dX0_kindOn_48 ?_
        refine gl_istore_n dX0_kindOn_49 rfl rfl ?_
        refine gl_iinc (v := (nI (k + 1))) dX0_kindOn_50 rfl (nI_1 _) rfl rfl ?_
        refine gl_goto (tgt := 5) dX0_kindOn_53 (by decide) ?_
        refine gl_lcs ?_ ih; clear ih; simp_all [cntI, bI, nI] <;> rfl
  · refine gl_iload dX0_kindOn_5 rfl ?_
    refine gl_aload_n dX0_kindOn_7 rfl ?_
    refine gl_get (k := 7) dX0_kindOn_8 rfl (rfl : vwCl[0]? = some (RX0, TX0, 30)) in_X0 (by decide) q119 rfl ?_
    refine gl_icmp_ge (tgt := 56) dX0_kindOn_11 (by decide) (fun _ => ?_) (fun h => absurd ((by rw [hX.many]; exact nI_le (Nat.le_refl _) (by omega))) h)
    refine gl_iload_n dX0_kindOn_56 rfl ?_
    exact gl_iret dX0_kindOn_57 rfl ⟨rfl, rfl⟩
theorem x_cardsOf (hX : RL o τ x w n m t) (hL : Lb w n m t) (kd : Int32) : Ct yX0_cardsOf gX0_cardsOf (L + 15) 0 0 [.ref 1, .int kd] (mX o x) (Rt (some (.int (cntI (fun c => isOf (w (3 + c)) kd) n))) (mX o x)) := by
  refine Ct.of rfl rfl rfl rfl rfl ?_
  have h7 := hL.c7
  refine gl_iconst (v := nI 0) dX0_cardsOf_0 (by decide) ?_
  refine gl_istore_n dX0_cardsOf_1 rfl rfl ?_
  refine gl_iconst (v := nI 0) dX0_cardsOf_2 (by decide) ?_
  refine gl_istore_n dX0_cardsOf_3 rfl rfl ?_
  refine gl_loop (fun k => [some (.ref 1), some (.int kd), some (.int (cntI (fun c => isOf (w (3 + c)) kd) k)), some (.int (nI k))]) (fun _ => mX o x) n ?_ ?_
  · intro k hk ih
    obtain ⟨p, e, -⟩ := hX.card k hk
    refine gl_iload_n dX0_cardsOf_4 rfl ?_
    refine gl_aload_n dX0_cardsOf_5 rfl ?_
    refine gl_get (k := 7) dX0_cardsOf_6 rfl (rfl : vwCl[0]? = some (RX0, TX0, 30)) in_X0 (by decide) q119 rfl ?_
    refine gl_icmp_ge (tgt := 39) dX0_cardsOf_9 (by decide) (fun h => absurd h ((by rw [hX.many]; exact nI_ge hk (by omega)))) (fun _ => ?_)
    refine gl_iload_n dX0_cardsOf_12 rfl ?_
    refine gl_aload_n dX0_cardsOf_13 rfl ?_
    refine gl_get (k := 8) dX0_cardsOf_14 rfl (rfl : vwCl[0]? = some (RX0, TX0, 30)) in_X0 (by decide) q121 rfl ?_
    refine gl_iload_n dX0_cardsOf_17 rfl ?_
    refine gl_aald (j := k) dX0_cardsOf_18 rfl rfl (by omega) e ?_
    refine gl_iload_n dX0_cardsOf_19 rfl ?_
    refine gl_isW hX hL hk e dX0_cardsOf_20 q633 (by omega) rfl ⟨by first | exact Nat.le_refl _ | exact Nat.zero_le _ | decide | (dsimp only [rm]; omega), by first | exact Nat.le_refl _ | exact Nat.zero_le _ | decide | (dsimp only [rm]; omega)⟩ ?_
    refine gl_if_eq (tgt := 30) dX0_cardsOf_23 (by decide) (fun h23 => ?_) (fun h23 => ?_)
    · refine gl_iconst (v := nI 0) dX0_cardsOf_30 (by decide) ?_
      refine gl_iadd dX0_cardsOf_31 ?_
      refine gl_istore_n dX0_cardsOf_32 rfl rfl ?_
      refine gl_iinc (v := (nI (k + 1))) dX0_cardsOf_33 rfl (nI_1 _) rfl rfl ?_
      refine gl_goto (tgt := 4) dX0_cardsOf_36 (by decide) ?_
      refine gl_lcs ?_ ih; clear ih; simp_all [cntI, bI, nI] <;> rfl
    · refine gl_iconst (v := nI 1) dX0_cardsOf_26 (by decide) ?_
      refine gl_goto (tgt := 31) dX0_cardsOf_27 (by decide) ?_
      refine gl_iadd dX0_cardsOf_31 ?_
      refine gl_istore_n dX0_cardsOf_32 rfl rfl ?_
      refine gl_iinc (v := (nI (k + 1))) dX0_cardsOf_33 rfl (nI_1 _) rfl rfl ?_
      refine gl_goto (tgt := 4) dX0_cardsOf_36 (by decide) ?_
      refine gl_lcs ?_ ih; clear ih; simp_all [cntI, bI, nI] <;> rfl
  · refine gl_iload_n dX0_cardsOf_4 rfl ?_
    refine gl_aload_n dX0_cardsOf_5 rfl ?_
    refine gl_get (k := 7) dX0_cardsOf_6 rfl (rfl : vwCl[0]? = some (RX0, TX0, 30)) in_X0 (by decide) q119 rfl ?_
    refine gl_icmp_ge (tgt := 39) dX0_cardsOf_9 (by decide) (fun _ => ?_) (fun h => absurd ((by rw [hX.many]; exact nI_le (Nat.le_refl _) (by omega))) h)
    refine gl_iload_n dX0_cardsOf_39 rfl ?_
    exact gl_iret dX0_cardsOf_40 rfl ⟨rfl, rfl⟩
theorem x_freeQuestions (hX : RL o τ x w n m t) (hL : Lb w n m t) : Ct yX0_freeQuestions gX0_freeQuestions (L + 15) 0 0 [.ref 1] (mX o x) (Rt (some (.int (cntI (frQ w) m))) (mX o x)) := by
  refine Ct.of rfl rfl rfl rfl rfl ?_
  have h7q := hL.q7
  refine gl_iconst (v := nI 0) dX0_freeQuestions_0 (by decide) ?_
  refine gl_istore_n dX0_freeQuestions_1 rfl rfl ?_
  refine gl_iconst (v := nI 0) dX0_freeQuestions_2 (by decide) ?_
  refine gl_istore_n dX0_freeQuestions_3 rfl rfl ?_
  refine gl_loop (fun k => [some (.ref 1), some (.int (cntI (frQ w) k)), some (.int (nI k))]) (fun _ => mX o x) m ?_ ?_
  · intro k hk ih
    have eb := hX.by_ k (by omega)
    refine gl_iload_n dX0_freeQuestions_4 rfl ?_
    refine gl_aload_n dX0_freeQuestions_5 rfl ?_
    refine gl_get (k := 9) dX0_freeQuestions_6 rfl (rfl : vwCl[0]? = some (RX0, TX0, 30)) in_X0 (by decide) q122 rfl ?_
    refine gl_icmp_ge (tgt := 37) dX0_freeQuestions_9 (by decide) (fun h => absurd h ((by rw [hX.askMany]; exact nI_ge hk (by omega)))) (fun _ => ?_)
    refine gl_iload_n dX0_freeQuestions_12 rfl ?_
    refine gl_aload_n dX0_freeQuestions_13 rfl ?_
    refine gl_get (k := 12) dX0_freeQuestions_14 rfl (rfl : vwCl[0]? = some (RX0, TX0, 30)) in_X0 (by decide) q125 rfl ?_
    refine gl_iload_n dX0_freeQuestions_17 rfl ?_
    refine gl_iald (j := k) dX0_freeQuestions_18 rfl rfl (by omega) ?_
    refine gl_bipush (v := (-9)) dX0_freeQuestions_19 (by decide) ?_
    refine gl_icmp_ne (tgt := 28) dX0_freeQuestions_21 (by decide) (fun h21 => ?_) (fun h21 => ?_)
    · refine gl_iconst (v := nI 0) dX0_freeQuestions_28 (by decide) ?_
      refine gl_iadd dX0_freeQuestions_29 ?_
      refine gl_istore_n dX0_freeQuestions_30 rfl rfl ?_
      refine gl_iinc (v := (nI (k + 1))) dX0_freeQuestions_31 rfl (nI_1 _) rfl rfl ?_
      refine gl_goto (tgt := 4) dX0_freeQuestions_34 (by decide) ?_
      refine gl_lcs ?_ ih; clear ih; simp_all [cntI, frQ, bI, nI] <;> rfl
    · refine gl_iconst (v := nI 1) dX0_freeQuestions_24 (by decide) ?_
      refine gl_goto (tgt := 29) dX0_freeQuestions_25 (by decide) ?_
      refine gl_iadd dX0_freeQuestions_29 ?_
      refine gl_istore_n dX0_freeQuestions_30 rfl rfl ?_
      refine gl_iinc (v := (nI (k + 1))) dX0_freeQuestions_31 rfl (nI_1 _) rfl rfl ?_
      refine gl_goto (tgt := 4) dX0_freeQuestions_34 (by decide) ?_
      refine gl_lcs ?_ ih; clear ih; simp_all [cntI, frQ, bI, nI] <;> rfl
  · refine gl_iload_n dX0_freeQuestions_4 rfl ?_
    refine gl_aload_n dX0_freeQuestions_5 rfl ?_
    refine gl_get (k := 9) dX0_freeQuestions_6 rfl (rfl : vwCl[0]? = some (RX0, TX0, 30)) in_X0 (by decide) q122 rfl ?_
    refine gl_icmp_ge (tgt := 37) dX0_freeQuestions_9 (by decide) (fun _ => ?_) (fun h => absurd ((by rw [hX.askMany]; exact nI_le (Nat.le_refl _) (by omega))) h)
    refine gl_iload_n dX0_freeQuestions_37 rfl ?_
    exact gl_iret dX0_freeQuestions_38 rfl ⟨rfl, rfl⟩
end XA

