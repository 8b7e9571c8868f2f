/-! the component's mark: a question of the card's own kind, or a cast that fails -/
set_option maxRecDepth 100000
theorem inR_dk : ∀ k < 7, ∀ n < 8, inR (nI k) 0 (nI n - 1) = decide (k < n) := by decide +kernel
theorem cnt_but {p : Nat → Bool} {c : Nat} (hp : p c = true) : ∀ {n : Nat}, c < n → cntI (fun i => decide (¬ i = c) && p i) n + nI 1 = cntI p n
  | 0, h => absurd h (Nat.not_lt_zero _)
  | n + 1, h => by
    show cntI (fun i => decide (¬ i = c) && p i) n + bI (decide (¬ n = c) && p n) + nI 1 = cntI p n + bI (p n)
    by_cases q : n = c
    · subst q
      rw [show cntI (fun i => decide (¬ i = n) && p i) n = cntI p n from cntI_eq (fun i hi => by simp [show ¬ i = n by omega]), hp]
      simp only [not_true, decide_false, Bool.false_and, bI]
      rw [cntI_nI]
      simp only [Bool.false_eq_true, if_false, if_true, nI_add, Nat.add_zero]
    · have ih := cnt_but hp (n := n) (by omega)
      rw [← ih]
      simp only [q, not_false_iff, decide_true, Bool.true_and]
      rw [cntI_nI]
      cases p n <;> simp [bI, nI_add, Nat.add_comm, Nat.add_left_comm]
section MKl
variable {w : Nat → Int32} {n m t c : Nat}
theorem mk_cut (hL : Lb w n m t) {P Q : Nat → Bool} (h : ∀ k, k < 7 → P k = (decide (k < n) && Q k)) : cntI P 7 = cntI Q n := by
  have h7 := hL.c7
  rw [cntI_eq h, show (7 : Nat) = n + (7 - n) by omega]
  exact cntI_pad Q n _
theorem mk_l1 (hL : Lb w n m t) : cntI (fun k => mkIs w (nI 1) c k && mkAl w (nI 1) c k) 7 = cntI (fun i => isOf (w (3 + i)) (nI 1) && mns w i == mns w c) n := mk_cut hL (fun k hk => by
  have h7 := hL.c7
  simp only [mkIs, mkAl, hL.c]
  rw [if_neg (show ¬ nI 1 = 3 by decide), if_pos (show nI 1 = 1 by decide), inR_dk k hk n (by omega)]
  show _ = (decide (k < n) && (isOf (w (3 + k)) 1 && mns w k == mns w c))
  cases decide (k < n) <;> cases isOf (w (3 + k)) 1 <;> simp)
theorem mk_l2 (hL : Lb w n m t) (hc : c < n) : cntI (fun k => mkIs w (nI 2) c k && mkAl w (nI 2) c k) 7 = cntI (fun i => w (17 + i) == w (17 + c)) n - nI 1 := by
  have h7 := hL.c7
  rw [← cnt_but (p := fun i => w (17 + i) == w (17 + c)) (c := c) (beq_self_eq_true _) hc, Int32.add_sub_cancel]
  exact mk_cut hL (fun k hk => by
    simp only [mkIs, mkAl, hL.c]
    rw [if_neg (show ¬ nI 2 = 3 by decide), if_neg (show ¬ nI 2 = 1 by decide), if_pos (show nI 2 = 2 by decide), inR_dk k hk n (by omega)]
    have : (nI k = nI c) = (k = c) := propext ⟨fun q => by have := congrArg Int32.toNatClampNeg q; rw [nI_clamp (by omega), nI_clamp (by omega)] at this; exact this, fun q => by rw [q]⟩
    simp only [this])
theorem mk_l3 (hL : Lb w n m t) : cntI (fun k => mkIs w (nI 3) c k && mkAl w (nI 3) c k) 7 = ftN w c m := by
  have h7 := hL.q7
  unfold ftN
  rw [cntI_eq (q := fun k => decide (k < m) && fitB w k c) (fun k hk => by
    simp only [mkIs, mkAl, hL.q]
    rw [if_pos (show nI 3 = 3 by decide), if_neg (show ¬ nI 3 = 1 by decide), if_neg (show ¬ nI 3 = 2 by decide), if_neg (show ¬ nI 3 = 5 by decide), inR_dk k hk m (by omega), Bool.and_true]), show (7 : Nat) = m + (7 - m) by omega]
  exact cntI_pad _ m _
theorem mk_l5 (hL : Lb w n m t) : cntI (fun k => mkIs w (nI 5) c k && mkAl w (nI 5) c k) 7 = cntI (fun i => isOf (w (3 + i)) (nI 2) && w (10 + i) == mns w c) n := mk_cut hL (fun k hk => by
  have h7 := hL.c7
  simp only [mkIs, mkAl, hL.c]
  rw [if_neg (show ¬ nI 5 = 3 by decide), if_neg (show ¬ nI 5 = 1 by decide), if_neg (show ¬ nI 5 = 2 by decide), if_pos (show nI 5 = 5 by decide), inR_dk k hk n (by omega)]
  rfl)
end MKl
theorem srch_skip {args : Array Value} {s : State} {own cls : String} {pc h : Nat} {x : Nat × Nat × Nat × Nat} {t : List (Nat × Nat × Nat × Nat)} (hn : ¬ (x.1 ≤ pc ∧ pc < x.2.1)) (ht : srch args s own cls pc h t) : srch args s own cls pc h (x :: t) := ⟨fun q => absurd q hn, fun _ => ht⟩

theorem sr_mk1 : Sr gX0_mark "java/lang/ClassCastException" 57 100 := fun D b base p l s m args meth c X => srch_hit "java/lang/ClassCastException" (by decide) (by decide) (X.hts _ q608) (X.nx.1 _ n620) rfl
theorem sr_mk2 : Sr gX0_mark "java/lang/ClassCastException" 66 100 := fun D b base p l s m args meth c X => srch_skip (by decide) (srch_hit "java/lang/ClassCastException" (by decide) (by decide) (X.hts _ q608) (X.nx.1 _ n620) rfl)
theorem sr_mk3 : Sr gX0_mark "java/lang/ClassCastException" 75 100 := fun D b base p l s m args meth c X => srch_skip (by decide) (srch_skip (by decide) (srch_hit "java/lang/ClassCastException" (by decide) (by decide) (X.hts _ q608) (X.nx.1 _ n620) rfl))
theorem sr_mk4 : Sr gX0_mark "java/lang/ClassCastException" 84 100 := fun D b base p l s m args meth c X => srch_skip (by decide) (srch_skip (by decide) (srch_skip (by decide) (srch_hit "java/lang/ClassCastException" (by decide) (by decide) (X.hts _ q608) (X.nx.1 _ n620) rfl)))
theorem sr_mk5 : Sr gX0_mark "java/lang/ClassCastException" 92 100 := fun D b base p l s m args meth c X => srch_skip (by decide) (srch_skip (by decide) (srch_skip (by decide) (srch_skip (by decide) (srch_hit "java/lang/ClassCastException" (by decide) (by decide) (X.hts _ q608) (X.nx.1 _ n620) rfl))))
section XMk
variable (L : Nat) {o : OX} {τ : Nat → Nat} {x : XY} {y : MY} {n m t c k : Nat}
set_option maxHeartbeats 1000000 in
theorem x_mk1 (hV : RV o τ x y n m t) (hc : c < n) (e : x.2.2.2.1 5 c = some k) : GL gX0_mark (rm (L + 20) 3 850) (XR o (if isOf (y.2.2 23 (3 + c)) (nI 1) then (if nI 1 = 4 then (mns (y.2.2 23) c - y.2.2 23 (10 + c) + nI 10, y) else (cntI (fun k => mkIs (y.2.2 23) (nI 1) c k && mkAl (y.2.2 23) (nI 1) c k) 7, y)) else sfnd y 3)) 0 0 26 [some (.ref 1), some (.int (nI c)), some (.int (nI 1)), some (.ref k), none] [] (mX o x) := by
  have hL := hV.lb
  have hX := hV.rl
  have h33 := hV.h33
  obtain ⟨kd, hkd, e3, e4, -, -, hl⟩ := hX.cell hL hc e
  refine gl_iload_n dX0_mark_26 rfl ?_
  refine gl_tableIn (tgt := 56) dX0_mark_27 (by decide) (by decide) (show _ = some _ from rfl) (by decide) ?_
  refine gl_aload_n dX0_mark_56 rfl ?_
  match kd, hkd, e3, hl with
  | 0, _, e3, hl =>
    rw [if_neg (show ¬ isOf (y.2.2 23 (3 + c)) (nI 1) = true by rw [e3]; decide)]
    refine gl_castX (h := 100) dX0_mark_57 hl (rfl : vwCl[2]? = some (RX2, TX2, 4)) q437 (List.mem_of_getElem? (i := 0) rfl) (by decide +kernel) (by decide +kernel) (by decide +kernel) (by decide +kernel) rfl (exR (by omega)) (by dsimp only [rm]; omega) (by dsimp only [rm]; omega) (Nat.le_trans (by decide) h33) (List.cons_ne_nil _ _) sr_mk1 ?_
    refine gl_mem (μ1 := mX (o.1 + 3, o.2) x) rfl ?_
    refine gl_astore dX0_mark_100 rfl rfl ?_
    refine gl_aload_n dX0_mark_102 rfl ?_
    refine gl_iconst (v := nI 3) dX0_mark_103 (by decide) ?_
    refine gl_callV (x_found L (o.1 + 3, o.2) x 3 (by omega)) dX0_mark_104 q301 q303 qs2 q74 q304 rfl hX0_found rfl (rfl : vwCl[0]? = some (RX0, TX0, 30)) rfl rfl (rmOk (by omega) rfl) ⟨by first | exact Nat.le_refl _ | exact Nat.zero_le _ | decide | (dsimp only [rm]; omega), by first | exact Nat.le_refl _ | exact Nat.zero_le _ | decide | (dsimp only [rm]; omega)⟩ (rt1 ?_)
    exact gl_iret dX0_mark_107 rfl (XR.skf 3 3 (by omega) hV) (hc := by first | exact Nat.zero_le _ | (dsimp only [rm]; omega)) (hs := by first | exact Nat.zero_le _ | (dsimp only [rm]; omega))
  | 1, _, e3, hl =>
    rw [if_pos (show isOf (y.2.2 23 (3 + c)) (nI 1) = true by rw [e3]; decide)]
    rw [if_neg (show ¬ nI 1 = 4 by decide), mk_l1 hL]
    refine gl_cast dX0_mark_57 hl (rfl : vwCl[3]? = some (RX3, TX3, 4)) q437 (Or.inl rfl) ?_
    refine gl_aload_n dX0_mark_60 rfl ?_
    refine gl_callU (c_likes L hX hL hc e (Or.inl e3)) dX0_mark_61 q622 q625 q623 q627 q624 q623 q87 q627 rfl ⟨by decide, by decide, hX3_likes.2.2⟩ hl (rfl : vwCl[3]? = some (RX3, TX3, 4)) rfl rfl (rmOk (by omega) rfl) ⟨by first | exact Nat.le_refl _ | exact Nat.zero_le _ | decide | (dsimp only [rm]; omega), by first | exact Nat.le_refl _ | exact Nat.zero_le _ | decide | (dsimp only [rm]; omega)⟩ (rt1 ?_)
    exact gl_iret dX0_mark_64 rfl (XR.same hV) (hc := by first | exact Nat.zero_le _ | (dsimp only [rm]; omega)) (hs := by first | exact Nat.zero_le _ | (dsimp only [rm]; omega))
  | 2, _, e3, hl =>
    rw [if_neg (show ¬ isOf (y.2.2 23 (3 + c)) (nI 1) = true by rw [e3]; decide)]
    refine gl_castX (h := 100) dX0_mark_57 hl (rfl : vwCl[4]? = some (RX4, TX4, 4)) q437 (List.mem_of_getElem? (i := 9) rfl) (by decide +kernel) (by decide +kernel) (by decide +kernel) (by decide +kernel) rfl (exR (by omega)) (by dsimp only [rm]; omega) (by dsimp only [rm]; omega) (Nat.le_trans (by decide) h33) (List.cons_ne_nil _ _) sr_mk1 ?_
    refine gl_mem (μ1 := mX (o.1 + 3, o.2) x) rfl ?_
    refine gl_astore dX0_mark_100 rfl rfl ?_
    refine gl_aload_n dX0_mark_102 rfl ?_
    refine gl_iconst (v := nI 3) dX0_mark_103 (by decide) ?_
    refine gl_callV (x_found L (o.1 + 3, o.2) x 3 (by omega)) dX0_mark_104 q301 q303 qs2 q74 q304 rfl hX0_found rfl (rfl : vwCl[0]? = some (RX0, TX0, 30)) rfl rfl (rmOk (by omega) rfl) ⟨by first | exact Nat.le_refl _ | exact Nat.zero_le _ | decide | (dsimp only [rm]; omega), by first | exact Nat.le_refl _ | exact Nat.zero_le _ | decide | (dsimp only [rm]; omega)⟩ (rt1 ?_)
    exact gl_iret dX0_mark_107 rfl (XR.skf 3 3 (by omega) hV) (hc := by first | exact Nat.zero_le _ | (dsimp only [rm]; omega)) (hs := by first | exact Nat.zero_le _ | (dsimp only [rm]; omega))
  | 3, _, e3, hl =>
    rw [if_pos (show isOf (y.2.2 23 (3 + c)) (nI 1) = true by rw [e3]; decide)]
    rw [if_neg (show ¬ nI 1 = 4 by decide), mk_l1 hL]
    refine gl_cast dX0_mark_57 hl (rfl : vwCl[5]? = some (RX5, TX5, 4)) q437 (Or.inr n1442) ?_
    refine gl_aload_n dX0_mark_60 rfl ?_
    refine gl_callU (c_likes L hX hL hc e (Or.inr e3)) dX0_mark_61 q622 q625 q623 q627 q626 q623 q87 q627 rfl ⟨by decide, by decide, hX3_likes.2.2⟩ hl (rfl : vwCl[5]? = some (RX5, TX5, 4)) rfl rfl (rmOk (by omega) rfl) ⟨by first | exact Nat.le_refl _ | exact Nat.zero_le _ | decide | (dsimp only [rm]; omega), by first | exact Nat.le_refl _ | exact Nat.zero_le _ | decide | (dsimp only [rm]; omega)⟩ (rt1 ?_)
    exact gl_iret dX0_mark_64 rfl (XR.same hV) (hc := by first | exact Nat.zero_le _ | (dsimp only [rm]; omega)) (hs := by first | exact Nat.zero_le _ | (dsimp only [rm]; omega))
  | 4, _, e3, hl =>
    rw [if_neg (show ¬ isOf (y.2.2 23 (3 + c)) (nI 1) = true by rw [e3]; decide)]
    refine gl_castX (h := 100) dX0_mark_57 hl (rfl : vwCl[6]? = some (RX6, TX6, 4)) q437 (List.mem_of_getElem? (i := 16) rfl) (by decide +kernel) (by decide +kernel) (by decide +kernel) (by decide +kernel) rfl (exR (by omega)) (by dsimp only [rm]; omega) (by dsimp only [rm]; omega) (Nat.le_trans (by decide) h33) (List.cons_ne_nil _ _) sr_mk1 ?_
    refine gl_mem (μ1 := mX (o.1 + 3, o.2) x) rfl ?_
    refine gl_astore dX0_mark_100 rfl rfl ?_
    refine gl_aload_n dX0_mark_102 rfl ?_
    refine gl_iconst (v := nI 3) dX0_mark_103 (by decide) ?_
    refine gl_callV (x_found L (o.1 + 3, o.2) x 3 (by omega)) dX0_mark_104 q301 q303 qs2 q74 q304 rfl hX0_found rfl (rfl : vwCl[0]? = some (RX0, TX0, 30)) rfl rfl (rmOk (by omega) rfl) ⟨by first | exact Nat.le_refl _ | exact Nat.zero_le _ | decide | (dsimp only [rm]; omega), by first | exact Nat.le_refl _ | exact Nat.zero_le _ | decide | (dsimp only [rm]; omega)⟩ (rt1 ?_)
    exact gl_iret dX0_mark_107 rfl (XR.skf 3 3 (by omega) hV) (hc := by first | exact Nat.zero_le _ | (dsimp only [rm]; omega)) (hs := by first | exact Nat.zero_le _ | (dsimp only [rm]; omega))
  | 5, _, e3, hl =>
    rw [if_neg (show ¬ isOf (y.2.2 23 (3 + c)) (nI 1) = true by rw [e3]; decide)]
    refine gl_castX (h := 100) dX0_mark_57 hl (rfl : vwCl[7]? = some (RX7, TX7, 4)) q437 (List.mem_of_getElem? (i := 20) rfl) (by decide +kernel) (by decide +kernel) (by decide +kernel) (by decide +kernel) rfl (exR (by omega)) (by dsimp only [rm]; omega) (by dsimp only [rm]; omega) (Nat.le_trans (by decide) h33) (List.cons_ne_nil _ _) sr_mk1 ?_
    refine gl_mem (μ1 := mX (o.1 + 3, o.2) x) rfl ?_
    refine gl_astore dX0_mark_100 rfl rfl ?_
    refine gl_aload_n dX0_mark_102 rfl ?_
    refine gl_iconst (v := nI 3) dX0_mark_103 (by decide) ?_
    refine gl_callV (x_found L (o.1 + 3, o.2) x 3 (by omega)) dX0_mark_104 q301 q303 qs2 q74 q304 rfl hX0_found rfl (rfl : vwCl[0]? = some (RX0, TX0, 30)) rfl rfl (rmOk (by omega) rfl) ⟨by first | exact Nat.le_refl _ | exact Nat.zero_le _ | decide | (dsimp only [rm]; omega), by first | exact Nat.le_refl _ | exact Nat.zero_le _ | decide | (dsimp only [rm]; omega)⟩ (rt1 ?_)
    exact gl_iret dX0_mark_107 rfl (XR.skf 3 3 (by omega) hV) (hc := by first | exact Nat.zero_le _ | (dsimp only [rm]; omega)) (hs := by first | exact Nat.zero_le _ | (dsimp only [rm]; omega))
set_option maxHeartbeats 1000000 in
theorem x_mk2 (hV : RV o τ x y n m t) (hc : c < n) (e : x.2.2.2.1 5 c = some k) : GL gX0_mark (rm (L + 20) 3 850) (XR o (if isOf (y.2.2 23 (3 + c)) (nI 2) then (if nI 2 = 4 then (mns (y.2.2 23) c - y.2.2 23 (10 + c) + nI 10, y) else (cntI (fun k => mkIs (y.2.2 23) (nI 2) c k && mkAl (y.2.2 23) (nI 2) c k) 7, y)) else sfnd y 3)) 0 0 26 [some (.ref 1), some (.int (nI c)), some (.int (nI 2)), some (.ref k), none] [] (mX o x) := by
  have hL := hV.lb
  have hX := hV.rl
  have h33 := hV.h33
  obtain ⟨kd, hkd, e3, e4, -, -, hl⟩ := hX.cell hL hc e
  refine gl_iload_n dX0_mark_26 rfl ?_
  refine gl_tableIn (tgt := 65) dX0_mark_27 (by decide) (by decide) (show _ = some _ from rfl) (by decide) ?_
  refine gl_aload_n dX0_mark_65 rfl ?_
  match kd, hkd, e3, hl with
  | 0, _, e3, hl =>
    rw [if_neg (show ¬ isOf (y.2.2 23 (3 + c)) (nI 2) = true by rw [e3]; decide)]
    refine gl_castX (h := 100) dX0_mark_66 hl (rfl : vwCl[2]? = some (RX2, TX2, 4)) q462 (List.mem_of_getElem? (i := 1) rfl) (by decide +kernel) (by decide +kernel) (by decide +kernel) (by decide +kernel) rfl (exR (by omega)) (by dsimp only [rm]; omega) (by dsimp only [rm]; omega) (Nat.le_trans (by decide) h33) (List.cons_ne_nil _ _) sr_mk2 ?_
    refine gl_mem (μ1 := mX (o.1 + 3, o.2) x) rfl ?_
    refine gl_astore dX0_mark_100 rfl rfl ?_
    refine gl_aload_n dX0_mark_102 rfl ?_
    refine gl_iconst (v := nI 3) dX0_mark_103 (by decide) ?_
    refine gl_callV (x_found L (o.1 + 3, o.2) x 3 (by omega)) dX0_mark_104 q301 q303 qs2 q74 q304 rfl hX0_found rfl (rfl : vwCl[0]? = some (RX0, TX0, 30)) rfl rfl (rmOk (by omega) rfl) ⟨by first | exact Nat.le_refl _ | exact Nat.zero_le _ | decide | (dsimp only [rm]; omega), by first | exact Nat.le_refl _ | exact Nat.zero_le _ | decide | (dsimp only [rm]; omega)⟩ (rt1 ?_)
    exact gl_iret dX0_mark_107 rfl (XR.skf 3 3 (by omega) hV) (hc := by first | exact Nat.zero_le _ | (dsimp only [rm]; omega)) (hs := by first | exact Nat.zero_le _ | (dsimp only [rm]; omega))
  | 1, _, e3, hl =>
    rw [if_neg (show ¬ isOf (y.2.2 23 (3 + c)) (nI 2) = true by rw [e3]; decide)]
    refine gl_castX (h := 100) dX0_mark_66 hl (rfl : vwCl[3]? = some (RX3, TX3, 4)) q462 (List.mem_of_getElem? (i := 5) rfl) (by decide +kernel) (by decide +kernel) (by decide +kernel) (by decide +kernel) rfl (exR (by omega)) (by dsimp only [rm]; omega) (by dsimp only [rm]; omega) (Nat.le_trans (by decide) h33) (List.cons_ne_nil _ _) sr_mk2 ?_
    refine gl_mem (μ1 := mX (o.1 + 3, o.2) x) rfl ?_
    refine gl_astore dX0_mark_100 rfl rfl ?_
    refine gl_aload_n dX0_mark_102 rfl ?_
    refine gl_iconst (v := nI 3) dX0_mark_103 (by decide) ?_
    refine gl_callV (x_found L (o.1 + 3, o.2) x 3 (by omega)) dX0_mark_104 q301 q303 qs2 q74 q304 rfl hX0_found rfl (rfl : vwCl[0]? = some (RX0, TX0, 30)) rfl rfl (rmOk (by omega) rfl) ⟨by first | exact Nat.le_refl _ | exact Nat.zero_le _ | decide | (dsimp only [rm]; omega), by first | exact Nat.le_refl _ | exact Nat.zero_le _ | decide | (dsimp only [rm]; omega)⟩ (rt1 ?_)
    exact gl_iret dX0_mark_107 rfl (XR.skf 3 3 (by omega) hV) (hc := by first | exact Nat.zero_le _ | (dsimp only [rm]; omega)) (hs := by first | exact Nat.zero_le _ | (dsimp only [rm]; omega))
  | 2, _, e3, hl =>
    rw [if_pos (show isOf (y.2.2 23 (3 + c)) (nI 2) = true by rw [e3]; decide)]
    rw [if_neg (show ¬ nI 2 = 4 by decide), mk_l2 hL hc]
    refine gl_cast dX0_mark_66 hl (rfl : vwCl[4]? = some (RX4, TX4, 4)) q462 (Or.inl rfl) ?_
    refine gl_aload_n dX0_mark_69 rfl ?_
    refine gl_callU (c_besides L hX hL hc e (Or.inl e3)) dX0_mark_70 q658 q661 q659 q663 q660 q659 q88 q663 rfl ⟨by decide, by decide, hX4_besides.2.2⟩ hl (rfl : vwCl[4]? = some (RX4, TX4, 4)) rfl rfl (rmOk (by omega) rfl) ⟨by first | exact Nat.le_refl _ | exact Nat.zero_le _ | decide | (dsimp only [rm]; omega), by first | exact Nat.le_refl _ | exact Nat.zero_le _ | decide | (dsimp only [rm]; omega)⟩ (rt1 ?_)
    exact gl_iret dX0_mark_73 rfl (XR.same hV) (hc := by first | exact Nat.zero_le _ | (dsimp only [rm]; omega)) (hs := by first | exact Nat.zero_le _ | (dsimp only [rm]; omega))
  | 3, _, e3, hl =>
    rw [if_neg (show ¬ isOf (y.2.2 23 (3 + c)) (nI 2) = true by rw [e3]; decide)]
    refine gl_castX (h := 100) dX0_mark_66 hl (rfl : vwCl[5]? = some (RX5, TX5, 4)) q462 (List.mem_of_getElem? (i := 13) rfl) (by decide +kernel) (by decide +kernel) (by decide +kernel) (by decide +kernel) rfl (exR (by omega)) (by dsimp only [rm]; omega) (by dsimp only [rm]; omega) (Nat.le_trans (by decide) h33) (List.cons_ne_nil _ _) sr_mk2 ?_
    refine gl_mem (μ1 := mX (o.1 + 3, o.2) x) rfl ?_
    refine gl_astore dX0_mark_100 rfl rfl ?_
    refine gl_aload_n dX0_mark_102 rfl ?_
    refine gl_iconst (v := nI 3) dX0_mark_103 (by decide) ?_
    refine gl_callV (x_found L (o.1 + 3, o.2) x 3 (by omega)) dX0_mark_104 q301 q303 qs2 q74 q304 rfl hX0_found rfl (rfl : vwCl[0]? = some (RX0, TX0, 30)) rfl rfl (rmOk (by omega) rfl) ⟨by first | exact Nat.le_refl _ | exact Nat.zero_le _ | decide | (dsimp only [rm]; omega), by first | exact Nat.le_refl _ | exact Nat.zero_le _ | decide | (dsimp only [rm]; omega)⟩ (rt1 ?_)
    exact gl_iret dX0_mark_107 rfl (XR.skf 3 3 (by omega) hV) (hc := by first | exact Nat.zero_le _ | (dsimp only [rm]; omega)) (hs := by first | exact Nat.zero_le _ | (dsimp only [rm]; omega))
  | 4, _, e3, hl =>
    rw [if_neg (show ¬ isOf (y.2.2 23 (3 + c)) (nI 2) = true by rw [e3]; decide)]
    refine gl_castX (h := 100) dX0_mark_66 hl (rfl : vwCl[6]? = some (RX6, TX6, 4)) q462 (List.mem_of_getElem? (i := 17) rfl) (by decide +kernel) (by decide +kernel) (by decide +kernel) (by decide +kernel) rfl (exR (by omega)) (by dsimp only [rm]; omega) (by dsimp only [rm]; omega) (Nat.le_trans (by decide) h33) (List.cons_ne_nil _ _) sr_mk2 ?_
    refine gl_mem (μ1 := mX (o.1 + 3, o.2) x) rfl ?_
    refine gl_astore dX0_mark_100 rfl rfl ?_
    refine gl_aload_n dX0_mark_102 rfl ?_
    refine gl_iconst (v := nI 3) dX0_mark_103 (by decide) ?_
    refine gl_callV (x_found L (o.1 + 3, o.2) x 3 (by omega)) dX0_mark_104 q301 q303 qs2 q74 q304 rfl hX0_found rfl (rfl : vwCl[0]? = some (RX0, TX0, 30)) rfl rfl (rmOk (by omega) rfl) ⟨by first | exact Nat.le_refl _ | exact Nat.zero_le _ | decide | (dsimp only [rm]; omega), by first | exact Nat.le_refl _ | exact Nat.zero_le _ | decide | (dsimp only [rm]; omega)⟩ (rt1 ?_)
    exact gl_iret dX0_mark_107 rfl (XR.skf 3 3 (by omega) hV) (hc := by first | exact Nat.zero_le _ | (dsimp only [rm]; omega)) (hs := by first | exact Nat.zero_le _ | (dsimp only [rm]; omega))
  | 5, _, e3, hl =>
    rw [if_pos (show isOf (y.2.2 23 (3 + c)) (nI 2) = true by rw [e3]; decide)]
    rw [if_neg (show ¬ nI 2 = 4 by decide), mk_l2 hL hc]
    refine gl_cast dX0_mark_66 hl (rfl : vwCl[7]? = some (RX7, TX7, 4)) q462 (Or.inr n1443) ?_
    refine gl_aload_n dX0_mark_69 rfl ?_
    refine gl_callU (c_besides L hX hL hc e (Or.inr e3)) dX0_mark_70 q658 q661 q659 q663 q662 q659 q88 q663 rfl ⟨by decide, by decide, hX4_besides.2.2⟩ hl (rfl : vwCl[7]? = some (RX7, TX7, 4)) rfl rfl (rmOk (by omega) rfl) ⟨by first | exact Nat.le_refl _ | exact Nat.zero_le _ | decide | (dsimp only [rm]; omega), by first | exact Nat.le_refl _ | exact Nat.zero_le _ | decide | (dsimp only [rm]; omega)⟩ (rt1 ?_)
    exact gl_iret dX0_mark_73 rfl (XR.same hV) (hc := by first | exact Nat.zero_le _ | (dsimp only [rm]; omega)) (hs := by first | exact Nat.zero_le _ | (dsimp only [rm]; omega))
set_option maxHeartbeats 1000000 in
theorem x_mk3 (hV : RV o τ x y n m t) (hc : c < n) (e : x.2.2.2.1 5 c = some k) : GL gX0_mark (rm (L + 20) 3 850) (XR o (if isOf (y.2.2 23 (3 + c)) (nI 3) then (if nI 3 = 4 then (mns (y.2.2 23) c - y.2.2 23 (10 + c) + nI 10, y) else (cntI (fun k => mkIs (y.2.2 23) (nI 3) c k && mkAl (y.2.2 23) (nI 3) c k) 7, y)) else sfnd y 3)) 0 0 26 [some (.ref 1), some (.int (nI c)), some (.int (nI 3)), some (.ref k), none] [] (mX o x) := by
  have hL := hV.lb
  have hX := hV.rl
  have h33 := hV.h33
  obtain ⟨kd, hkd, e3, e4, -, -, hl⟩ := hX.cell hL hc e
  refine gl_iload_n dX0_mark_26 rfl ?_
  refine gl_tableIn (tgt := 74) dX0_mark_27 (by decide) (by decide) (show _ = some _ from rfl) (by decide) ?_
  refine gl_aload_n dX0_mark_74 rfl ?_
  match kd, hkd, e3, hl with
  | 0, _, e3, hl =>
    rw [if_neg (show ¬ isOf (y.2.2 23 (3 + c)) (nI 3) = true by rw [e3]; decide)]
    refine gl_castX (h := 100) dX0_mark_75 hl (rfl : vwCl[2]? = some (RX2, TX2, 4)) q473 (List.mem_of_getElem? (i := 2) rfl) (by decide +kernel) (by decide +kernel) (by decide +kernel) (by decide +kernel) rfl (exR (by omega)) (by dsimp only [rm]; omega) (by dsimp only [rm]; omega) (Nat.le_trans (by decide) h33) (List.cons_ne_nil _ _) sr_mk3 ?_
    refine gl_mem (μ1 := mX (o.1 + 3, o.2) x) rfl ?_
    refine gl_astore dX0_mark_100 rfl rfl ?_
    refine gl_aload_n dX0_mark_102 rfl ?_
    refine gl_iconst (v := nI 3) dX0_mark_103 (by decide) ?_
    refine gl_callV (x_found L (o.1 + 3, o.2) x 3 (by omega)) dX0_mark_104 q301 q303 qs2 q74 q304 rfl hX0_found rfl (rfl : vwCl[0]? = some (RX0, TX0, 30)) rfl rfl (rmOk (by omega) rfl) ⟨by first | exact Nat.le_refl _ | exact Nat.zero_le _ | decide | (dsimp only [rm]; omega), by first | exact Nat.le_refl _ | exact Nat.zero_le _ | decide | (dsimp only [rm]; omega)⟩ (rt1 ?_)
    exact gl_iret dX0_mark_107 rfl (XR.skf 3 3 (by omega) hV) (hc := by first | exact Nat.zero_le _ | (dsimp only [rm]; omega)) (hs := by first | exact Nat.zero_le _ | (dsimp only [rm]; omega))
  | 1, _, e3, hl =>
    rw [if_neg (show ¬ isOf (y.2.2 23 (3 + c)) (nI 3) = true by rw [e3]; decide)]
    refine gl_castX (h := 100) dX0_mark_75 hl (rfl : vwCl[3]? = some (RX3, TX3, 4)) q473 (List.mem_of_getElem? (i := 6) rfl) (by decide +kernel) (by decide +kernel) (by decide +kernel) (by decide +kernel) rfl (exR (by omega)) (by dsimp only [rm]; omega) (by dsimp only [rm]; omega) (Nat.le_trans (by decide) h33) (List.cons_ne_nil _ _) sr_mk3 ?_
    refine gl_mem (μ1 := mX (o.1 + 3, o.2) x) rfl ?_
    refine gl_astore dX0_mark_100 rfl rfl ?_
    refine gl_aload_n dX0_mark_102 rfl ?_
    refine gl_iconst (v := nI 3) dX0_mark_103 (by decide) ?_
    refine gl_callV (x_found L (o.1 + 3, o.2) x 3 (by omega)) dX0_mark_104 q301 q303 qs2 q74 q304 rfl hX0_found rfl (rfl : vwCl[0]? = some (RX0, TX0, 30)) rfl rfl (rmOk (by omega) rfl) ⟨by first | exact Nat.le_refl _ | exact Nat.zero_le _ | decide | (dsimp only [rm]; omega), by first | exact Nat.le_refl _ | exact Nat.zero_le _ | decide | (dsimp only [rm]; omega)⟩ (rt1 ?_)
    exact gl_iret dX0_mark_107 rfl (XR.skf 3 3 (by omega) hV) (hc := by first | exact Nat.zero_le _ | (dsimp only [rm]; omega)) (hs := by first | exact Nat.zero_le _ | (dsimp only [rm]; omega))
  | 2, _, e3, hl =>
    rw [if_neg (show ¬ isOf (y.2.2 23 (3 + c)) (nI 3) = true by rw [e3]; decide)]
    refine gl_castX (h := 100) dX0_mark_75 hl (rfl : vwCl[4]? = some (RX4, TX4, 4)) q473 (List.mem_of_getElem? (i := 10) rfl) (by decide +kernel) (by decide +kernel) (by decide +kernel) (by decide +kernel) rfl (exR (by omega)) (by dsimp only [rm]; omega) (by dsimp only [rm]; omega) (Nat.le_trans (by decide) h33) (List.cons_ne_nil _ _) sr_mk3 ?_
    refine gl_mem (μ1 := mX (o.1 + 3, o.2) x) rfl ?_
    refine gl_astore dX0_mark_100 rfl rfl ?_
    refine gl_aload_n dX0_mark_102 rfl ?_
    refine gl_iconst (v := nI 3) dX0_mark_103 (by decide) ?_
    refine gl_callV (x_found L (o.1 + 3, o.2) x 3 (by omega)) dX0_mark_104 q301 q303 qs2 q74 q304 rfl hX0_found rfl (rfl : vwCl[0]? = some (RX0, TX0, 30)) rfl rfl (rmOk (by omega) rfl) ⟨by first | exact Nat.le_refl _ | exact Nat.zero_le _ | decide | (dsimp only [rm]; omega), by first | exact Nat.le_refl _ | exact Nat.zero_le _ | decide | (dsimp only [rm]; omega)⟩ (rt1 ?_)
    exact gl_iret dX0_mark_107 rfl (XR.skf 3 3 (by omega) hV) (hc := by first | exact Nat.zero_le _ | (dsimp only [rm]; omega)) (hs := by first | exact Nat.zero_le _ | (dsimp only [rm]; omega))
  | 3, _, e3, hl =>
    rw [if_pos (show isOf (y.2.2 23 (3 + c)) (nI 3) = true by rw [e3]; decide)]
    rw [if_neg (show ¬ nI 3 = 4 by decide), mk_l3 hL]
    refine gl_cast dX0_mark_75 hl (rfl : vwCl[5]? = some (RX5, TX5, 4)) q473 (Or.inl rfl) ?_
    refine gl_aload_n dX0_mark_78 rfl ?_
    refine gl_callV (c_asks L hX hL hc e e3) dX0_mark_79 q675 q676 q677 q89 q678 rfl hX5_asks hl (rfl : vwCl[5]? = some (RX5, TX5, 4)) rfl rfl (rmOk (by omega) rfl) ⟨by first | exact Nat.le_refl _ | exact Nat.zero_le _ | decide | (dsimp only [rm]; omega), by first | exact Nat.le_refl _ | exact Nat.zero_le _ | decide | (dsimp only [rm]; omega)⟩ (rt1 ?_)
    exact gl_iret dX0_mark_82 rfl (XR.same hV) (hc := by first | exact Nat.zero_le _ | (dsimp only [rm]; omega)) (hs := by first | exact Nat.zero_le _ | (dsimp only [rm]; omega))
  | 4, _, e3, hl =>
    rw [if_neg (show ¬ isOf (y.2.2 23 (3 + c)) (nI 3) = true by rw [e3]; decide)]
    refine gl_castX (h := 100) dX0_mark_75 hl (rfl : vwCl[6]? = some (RX6, TX6, 4)) q473 (List.mem_of_getElem? (i := 18) rfl) (by decide +kernel) (by decide +kernel) (by decide +kernel) (by decide +kernel) rfl (exR (by omega)) (by dsimp only [rm]; omega) (by dsimp only [rm]; omega) (Nat.le_trans (by decide) h33) (List.cons_ne_nil _ _) sr_mk3 ?_
    refine gl_mem (μ1 := mX (o.1 + 3, o.2) x) rfl ?_
    refine gl_astore dX0_mark_100 rfl rfl ?_
    refine gl_aload_n dX0_mark_102 rfl ?_
    refine gl_iconst (v := nI 3) dX0_mark_103 (by decide) ?_
    refine gl_callV (x_found L (o.1 + 3, o.2) x 3 (by omega)) dX0_mark_104 q301 q303 qs2 q74 q304 rfl hX0_found rfl (rfl : vwCl[0]? = some (RX0, TX0, 30)) rfl rfl (rmOk (by omega) rfl) ⟨by first | exact Nat.le_refl _ | exact Nat.zero_le _ | decide | (dsimp only [rm]; omega), by first | exact Nat.le_refl _ | exact Nat.zero_le _ | decide | (dsimp only [rm]; omega)⟩ (rt1 ?_)
    exact gl_iret dX0_mark_107 rfl (XR.skf 3 3 (by omega) hV) (hc := by first | exact Nat.zero_le _ | (dsimp only [rm]; omega)) (hs := by first | exact Nat.zero_le _ | (dsimp only [rm]; omega))
  | 5, _, e3, hl =>
    rw [if_neg (show ¬ isOf (y.2.2 23 (3 + c)) (nI 3) = true by rw [e3]; decide)]
    refine gl_castX (h := 100) dX0_mark_75 hl (rfl : vwCl[7]? = some (RX7, TX7, 4)) q473 (List.mem_of_getElem? (i := 21) rfl) (by decide +kernel) (by decide +kernel) (by decide +kernel) (by decide +kernel) rfl (exR (by omega)) (by dsimp only [rm]; omega) (by dsimp only [rm]; omega) (Nat.le_trans (by decide) h33) (List.cons_ne_nil _ _) sr_mk3 ?_
    refine gl_mem (μ1 := mX (o.1 + 3, o.2) x) rfl ?_
    refine gl_astore dX0_mark_100 rfl rfl ?_
    refine gl_aload_n dX0_mark_102 rfl ?_
    refine gl_iconst (v := nI 3) dX0_mark_103 (by decide) ?_
    refine gl_callV (x_found L (o.1 + 3, o.2) x 3 (by omega)) dX0_mark_104 q301 q303 qs2 q74 q304 rfl hX0_found rfl (rfl : vwCl[0]? = some (RX0, TX0, 30)) rfl rfl (rmOk (by omega) rfl) ⟨by first | exact Nat.le_refl _ | exact Nat.zero_le _ | decide | (dsimp only [rm]; omega), by first | exact Nat.le_refl _ | exact Nat.zero_le _ | decide | (dsimp only [rm]; omega)⟩ (rt1 ?_)
    exact gl_iret dX0_mark_107 rfl (XR.skf 3 3 (by omega) hV) (hc := by first | exact Nat.zero_le _ | (dsimp only [rm]; omega)) (hs := by first | exact Nat.zero_le _ | (dsimp only [rm]; omega))
set_option maxHeartbeats 1000000 in
theorem x_mk4 (hV : RV o τ x y n m t) (hc : c < n) (e : x.2.2.2.1 5 c = some k) : GL gX0_mark (rm (L + 20) 3 850) (XR o (if isOf (y.2.2 23 (3 + c)) (nI 4) then (if nI 4 = 4 then (mns (y.2.2 23) c - y.2.2 23 (10 + c) + nI 10, y) else (cntI (fun k => mkIs (y.2.2 23) (nI 4) c k && mkAl (y.2.2 23) (nI 4) c k) 7, y)) else sfnd y 3)) 0 0 26 [some (.ref 1), some (.int (nI c)), some (.int (nI 4)), some (.ref k), none] [] (mX o x) := by
  have hL := hV.lb
  have hX := hV.rl
  have h33 := hV.h33
  obtain ⟨kd, hkd, e3, e4, -, -, hl⟩ := hX.cell hL hc e
  refine gl_iload_n dX0_mark_26 rfl ?_
  refine gl_tableIn (tgt := 83) dX0_mark_27 (by decide) (by decide) (show _ = some _ from rfl) (by decide) ?_
  refine gl_aload_n dX0_mark_83 rfl ?_
  match kd, hkd, e3, hl with
  | 0, _, e3, hl =>
    rw [if_neg (show ¬ isOf (y.2.2 23 (3 + c)) (nI 4) = true by rw [e3]; decide)]
    refine gl_castX (h := 100) dX0_mark_84 hl (rfl : vwCl[2]? = some (RX2, TX2, 4)) q484 (List.mem_of_getElem? (i := 3) rfl) (by decide +kernel) (by decide +kernel) (by decide +kernel) (by decide +kernel) rfl (exR (by omega)) (by dsimp only [rm]; omega) (by dsimp only [rm]; omega) (Nat.le_trans (by decide) h33) (List.cons_ne_nil _ _) sr_mk4 ?_
    refine gl_mem (μ1 := mX (o.1 + 3, o.2) x) rfl ?_
    refine gl_astore dX0_mark_100 rfl rfl ?_
    refine gl_aload_n dX0_mark_102 rfl ?_
    refine gl_iconst (v := nI 3) dX0_mark_103 (by decide) ?_
    refine gl_callV (x_found L (o.1 + 3, o.2) x 3 (by omega)) dX0_mark_104 q301 q303 qs2 q74 q304 rfl hX0_found rfl (rfl : vwCl[0]? = some (RX0, TX0, 30)) rfl rfl (rmOk (by omega) rfl) ⟨by first | exact Nat.le_refl _ | exact Nat.zero_le _ | decide | (dsimp only [rm]; omega), by first | exact Nat.le_refl _ | exact Nat.zero_le _ | decide | (dsimp only [rm]; omega)⟩ (rt1 ?_)
    exact gl_iret dX0_mark_107 rfl (XR.skf 3 3 (by omega) hV) (hc := by first | exact Nat.zero_le _ | (dsimp only [rm]; omega)) (hs := by first | exact Nat.zero_le _ | (dsimp only [rm]; omega))
  | 1, _, e3, hl =>
    rw [if_neg (show ¬ isOf (y.2.2 23 (3 + c)) (nI 4) = true by rw [e3]; decide)]
    refine gl_castX (h := 100) dX0_mark_84 hl (rfl : vwCl[3]? = some (RX3, TX3, 4)) q484 (List.mem_of_getElem? (i := 7) rfl) (by decide +kernel) (by decide +kernel) (by decide +kernel) (by decide +kernel) rfl (exR (by omega)) (by dsimp only [rm]; omega) (by dsimp only [rm]; omega) (Nat.le_trans (by decide) h33) (List.cons_ne_nil _ _) sr_mk4 ?_
    refine gl_mem (μ1 := mX (o.1 + 3, o.2) x) rfl ?_
    refine gl_astore dX0_mark_100 rfl rfl ?_
    refine gl_aload_n dX0_mark_102 rfl ?_
    refine gl_iconst (v := nI 3) dX0_mark_103 (by decide) ?_
    refine gl_callV (x_found L (o.1 + 3, o.2) x 3 (by omega)) dX0_mark_104 q301 q303 qs2 q74 q304 rfl hX0_found rfl (rfl : vwCl[0]? = some (RX0, TX0, 30)) rfl rfl (rmOk (by omega) rfl) ⟨by first | exact Nat.le_refl _ | exact Nat.zero_le _ | decide | (dsimp only [rm]; omega), by first | exact Nat.le_refl _ | exact Nat.zero_le _ | decide | (dsimp only [rm]; omega)⟩ (rt1 ?_)
    exact gl_iret dX0_mark_107 rfl (XR.skf 3 3 (by omega) hV) (hc := by first | exact Nat.zero_le _ | (dsimp only [rm]; omega)) (hs := by first | exact Nat.zero_le _ | (dsimp only [rm]; omega))
  | 2, _, e3, hl =>
    rw [if_neg (show ¬ isOf (y.2.2 23 (3 + c)) (nI 4) = true by rw [e3]; decide)]
    refine gl_castX (h := 100) dX0_mark_84 hl (rfl : vwCl[4]? = some (RX4, TX4, 4)) q484 (List.mem_of_getElem? (i := 11) rfl) (by decide +kernel) (by decide +kernel) (by decide +kernel) (by decide +kernel) rfl (exR (by omega)) (by dsimp only [rm]; omega) (by dsimp only [rm]; omega) (Nat.le_trans (by decide) h33) (List.cons_ne_nil _ _) sr_mk4 ?_
    refine gl_mem (μ1 := mX (o.1 + 3, o.2) x) rfl ?_
    refine gl_astore dX0_mark_100 rfl rfl ?_
    refine gl_aload_n dX0_mark_102 rfl ?_
    refine gl_iconst (v := nI 3) dX0_mark_103 (by decide) ?_
    refine gl_callV (x_found L (o.1 + 3, o.2) x 3 (by omega)) dX0_mark_104 q301 q303 qs2 q74 q304 rfl hX0_found rfl (rfl : vwCl[0]? = some (RX0, TX0, 30)) rfl rfl (rmOk (by omega) rfl) ⟨by first | exact Nat.le_refl _ | exact Nat.zero_le _ | decide | (dsimp only [rm]; omega), by first | exact Nat.le_refl _ | exact Nat.zero_le _ | decide | (dsimp only [rm]; omega)⟩ (rt1 ?_)
    exact gl_iret dX0_mark_107 rfl (XR.skf 3 3 (by omega) hV) (hc := by first | exact Nat.zero_le _ | (dsimp only [rm]; omega)) (hs := by first | exact Nat.zero_le _ | (dsimp only [rm]; omega))
  | 3, _, e3, hl =>
    rw [if_neg (show ¬ isOf (y.2.2 23 (3 + c)) (nI 4) = true by rw [e3]; decide)]
    refine gl_castX (h := 100) dX0_mark_84 hl (rfl : vwCl[5]? = some (RX5, TX5, 4)) q484 (List.mem_of_getElem? (i := 14) rfl) (by decide +kernel) (by decide +kernel) (by decide +kernel) (by decide +kernel) rfl (exR (by omega)) (by dsimp only [rm]; omega) (by dsimp only [rm]; omega) (Nat.le_trans (by decide) h33) (List.cons_ne_nil _ _) sr_mk4 ?_
    refine gl_mem (μ1 := mX (o.1 + 3, o.2) x) rfl ?_
    refine gl_astore dX0_mark_100 rfl rfl ?_
    refine gl_aload_n dX0_mark_102 rfl ?_
    refine gl_iconst (v := nI 3) dX0_mark_103 (by decide) ?_
    refine gl_callV (x_found L (o.1 + 3, o.2) x 3 (by omega)) dX0_mark_104 q301 q303 qs2 q74 q304 rfl hX0_found rfl (rfl : vwCl[0]? = some (RX0, TX0, 30)) rfl rfl (rmOk (by omega) rfl) ⟨by first | exact Nat.le_refl _ | exact Nat.zero_le _ | decide | (dsimp only [rm]; omega), by first | exact Nat.le_refl _ | exact Nat.zero_le _ | decide | (dsimp only [rm]; omega)⟩ (rt1 ?_)
    exact gl_iret dX0_mark_107 rfl (XR.skf 3 3 (by omega) hV) (hc := by first | exact Nat.zero_le _ | (dsimp only [rm]; omega)) (hs := by first | exact Nat.zero_le _ | (dsimp only [rm]; omega))
  | 4, _, e3, hl =>
    rw [if_pos (show isOf (y.2.2 23 (3 + c)) (nI 4) = true by rw [e3]; decide)]
    rw [if_pos (show nI 4 = 4 by decide)]
    refine gl_cast dX0_mark_84 hl (rfl : vwCl[6]? = some (RX6, TX6, 4)) q484 (Or.inl rfl) ?_
    refine gl_callV (c_goneBy L hX hL hc e e3) dX0_mark_87 q693 q694 q695 q90 q696 rfl hX6_goneBy hl (rfl : vwCl[6]? = some (RX6, TX6, 4)) rfl rfl (rmOk (by omega) rfl) ⟨by first | exact Nat.le_refl _ | exact Nat.zero_le _ | decide | (dsimp only [rm]; omega), by first | exact Nat.le_refl _ | exact Nat.zero_le _ | decide | (dsimp only [rm]; omega)⟩ (rt1 ?_)
    exact gl_iret dX0_mark_90 rfl (XR.same hV) (hc := by first | exact Nat.zero_le _ | (dsimp only [rm]; omega)) (hs := by first | exact Nat.zero_le _ | (dsimp only [rm]; omega))
  | 5, _, e3, hl =>
    rw [if_neg (show ¬ isOf (y.2.2 23 (3 + c)) (nI 4) = true by rw [e3]; decide)]
    refine gl_castX (h := 100) dX0_mark_84 hl (rfl : vwCl[7]? = some (RX7, TX7, 4)) q484 (List.mem_of_getElem? (i := 22) rfl) (by decide +kernel) (by decide +kernel) (by decide +kernel) (by decide +kernel) rfl (exR (by omega)) (by dsimp only [rm]; omega) (by dsimp only [rm]; omega) (Nat.le_trans (by decide) h33) (List.cons_ne_nil _ _) sr_mk4 ?_
    refine gl_mem (μ1 := mX (o.1 + 3, o.2) x) rfl ?_
    refine gl_astore dX0_mark_100 rfl rfl ?_
    refine gl_aload_n dX0_mark_102 rfl ?_
    refine gl_iconst (v := nI 3) dX0_mark_103 (by decide) ?_
    refine gl_callV (x_found L (o.1 + 3, o.2) x 3 (by omega)) dX0_mark_104 q301 q303 qs2 q74 q304 rfl hX0_found rfl (rfl : vwCl[0]? = some (RX0, TX0, 30)) rfl rfl (rmOk (by omega) rfl) ⟨by first | exact Nat.le_refl _ | exact Nat.zero_le _ | decide | (dsimp only [rm]; omega), by first | exact Nat.le_refl _ | exact Nat.zero_le _ | decide | (dsimp only [rm]; omega)⟩ (rt1 ?_)
    exact gl_iret dX0_mark_107 rfl (XR.skf 3 3 (by omega) hV) (hc := by first | exact Nat.zero_le _ | (dsimp only [rm]; omega)) (hs := by first | exact Nat.zero_le _ | (dsimp only [rm]; omega))
set_option maxHeartbeats 1000000 in
theorem x_mk5 (hV : RV o τ x y n m t) (hc : c < n) (e : x.2.2.2.1 5 c = some k) : GL gX0_mark (rm (L + 20) 3 850) (XR o (if isOf (y.2.2 23 (3 + c)) (nI 5) then (if nI 5 = 4 then (mns (y.2.2 23) c - y.2.2 23 (10 + c) + nI 10, y) else (cntI (fun k => mkIs (y.2.2 23) (nI 5) c k && mkAl (y.2.2 23) (nI 5) c k) 7, y)) else sfnd y 3)) 0 0 26 [some (.ref 1), some (.int (nI c)), some (.int (nI 5)), some (.ref k), none] [] (mX o x) := by
  have hL := hV.lb
  have hX := hV.rl
  have h33 := hV.h33
  obtain ⟨kd, hkd, e3, e4, -, -, hl⟩ := hX.cell hL hc e
  refine gl_iload_n dX0_mark_26 rfl ?_
  refine gl_tableOut (tgt := 91) dX0_mark_27 (Or.inr (by decide)) (by decide) ?_
  refine gl_aload_n dX0_mark_91 rfl ?_
  match kd, hkd, e3, hl with
  | 0, _, e3, hl =>
    rw [if_neg (show ¬ isOf (y.2.2 23 (3 + c)) (nI 5) = true by rw [e3]; decide)]
    refine gl_castX (h := 100) dX0_mark_92 hl (rfl : vwCl[2]? = some (RX2, TX2, 4)) q495 (List.mem_of_getElem? (i := 4) rfl) (by decide +kernel) (by decide +kernel) (by decide +kernel) (by decide +kernel) rfl (exR (by omega)) (by dsimp only [rm]; omega) (by dsimp only [rm]; omega) (Nat.le_trans (by decide) h33) (List.cons_ne_nil _ _) sr_mk5 ?_
    refine gl_mem (μ1 := mX (o.1 + 3, o.2) x) rfl ?_
    refine gl_astore dX0_mark_100 rfl rfl ?_
    refine gl_aload_n dX0_mark_102 rfl ?_
    refine gl_iconst (v := nI 3) dX0_mark_103 (by decide) ?_
    refine gl_callV (x_found L (o.1 + 3, o.2) x 3 (by omega)) dX0_mark_104 q301 q303 qs2 q74 q304 rfl hX0_found rfl (rfl : vwCl[0]? = some (RX0, TX0, 30)) rfl rfl (rmOk (by omega) rfl) ⟨by first | exact Nat.le_refl _ | exact Nat.zero_le _ | decide | (dsimp only [rm]; omega), by first | exact Nat.le_refl _ | exact Nat.zero_le _ | decide | (dsimp only [rm]; omega)⟩ (rt1 ?_)
    exact gl_iret dX0_mark_107 rfl (XR.skf 3 3 (by omega) hV) (hc := by first | exact Nat.zero_le _ | (dsimp only [rm]; omega)) (hs := by first | exact Nat.zero_le _ | (dsimp only [rm]; omega))
  | 1, _, e3, hl =>
    rw [if_neg (show ¬ isOf (y.2.2 23 (3 + c)) (nI 5) = true by rw [e3]; decide)]
    refine gl_castX (h := 100) dX0_mark_92 hl (rfl : vwCl[3]? = some (RX3, TX3, 4)) q495 (List.mem_of_getElem? (i := 8) rfl) (by decide +kernel) (by decide +kernel) (by decide +kernel) (by decide +kernel) rfl (exR (by omega)) (by dsimp only [rm]; omega) (by dsimp only [rm]; omega) (Nat.le_trans (by decide) h33) (List.cons_ne_nil _ _) sr_mk5 ?_
    refine gl_mem (μ1 := mX (o.1 + 3, o.2) x) rfl ?_
    refine gl_astore dX0_mark_100 rfl rfl ?_
    refine gl_aload_n dX0_mark_102 rfl ?_
    refine gl_iconst (v := nI 3) dX0_mark_103 (by decide) ?_
    refine gl_callV (x_found L (o.1 + 3, o.2) x 3 (by omega)) dX0_mark_104 q301 q303 qs2 q74 q304 rfl hX0_found rfl (rfl : vwCl[0]? = some (RX0, TX0, 30)) rfl rfl (rmOk (by omega) rfl) ⟨by first | exact Nat.le_refl _ | exact Nat.zero_le _ | decide | (dsimp only [rm]; omega), by first | exact Nat.le_refl _ | exact Nat.zero_le _ | decide | (dsimp only [rm]; omega)⟩ (rt1 ?_)
    exact gl_iret dX0_mark_107 rfl (XR.skf 3 3 (by omega) hV) (hc := by first | exact Nat.zero_le _ | (dsimp only [rm]; omega)) (hs := by first | exact Nat.zero_le _ | (dsimp only [rm]; omega))
  | 2, _, e3, hl =>
    rw [if_neg (show ¬ isOf (y.2.2 23 (3 + c)) (nI 5) = true by rw [e3]; decide)]
    refine gl_castX (h := 100) dX0_mark_92 hl (rfl : vwCl[4]? = some (RX4, TX4, 4)) q495 (List.mem_of_getElem? (i := 12) rfl) (by decide +kernel) (by decide +kernel) (by decide +kernel) (by decide +kernel) rfl (exR (by omega)) (by dsimp only [rm]; omega) (by dsimp only [rm]; omega) (Nat.le_trans (by decide) h33) (List.cons_ne_nil _ _) sr_mk5 ?_
    refine gl_mem (μ1 := mX (o.1 + 3, o.2) x) rfl ?_
    refine gl_astore dX0_mark_100 rfl rfl ?_
    refine gl_aload_n dX0_mark_102 rfl ?_
    refine gl_iconst (v := nI 3) dX0_mark_103 (by decide) ?_
    refine gl_callV (x_found L (o.1 + 3, o.2) x 3 (by omega)) dX0_mark_104 q301 q303 qs2 q74 q304 rfl hX0_found rfl (rfl : vwCl[0]? = some (RX0, TX0, 30)) rfl rfl (rmOk (by omega) rfl) ⟨by first | exact Nat.le_refl _ | exact Nat.zero_le _ | decide | (dsimp only [rm]; omega), by first | exact Nat.le_refl _ | exact Nat.zero_le _ | decide | (dsimp only [rm]; omega)⟩ (rt1 ?_)
    exact gl_iret dX0_mark_107 rfl (XR.skf 3 3 (by omega) hV) (hc := by first | exact Nat.zero_le _ | (dsimp only [rm]; omega)) (hs := by first | exact Nat.zero_le _ | (dsimp only [rm]; omega))
  | 3, _, e3, hl =>
    rw [if_neg (show ¬ isOf (y.2.2 23 (3 + c)) (nI 5) = true by rw [e3]; decide)]
    refine gl_castX (h := 100) dX0_mark_92 hl (rfl : vwCl[5]? = some (RX5, TX5, 4)) q495 (List.mem_of_getElem? (i := 15) rfl) (by decide +kernel) (by decide +kernel) (by decide +kernel) (by decide +kernel) rfl (exR (by omega)) (by dsimp only [rm]; omega) (by dsimp only [rm]; omega) (Nat.le_trans (by decide) h33) (List.cons_ne_nil _ _) sr_mk5 ?_
    refine gl_mem (μ1 := mX (o.1 + 3, o.2) x) rfl ?_
    refine gl_astore dX0_mark_100 rfl rfl ?_
    refine gl_aload_n dX0_mark_102 rfl ?_
    refine gl_iconst (v := nI 3) dX0_mark_103 (by decide) ?_
    refine gl_callV (x_found L (o.1 + 3, o.2) x 3 (by omega)) dX0_mark_104 q301 q303 qs2 q74 q304 rfl hX0_found rfl (rfl : vwCl[0]? = some (RX0, TX0, 30)) rfl rfl (rmOk (by omega) rfl) ⟨by first | exact Nat.le_refl _ | exact Nat.zero_le _ | decide | (dsimp only [rm]; omega), by first | exact Nat.le_refl _ | exact Nat.zero_le _ | decide | (dsimp only [rm]; omega)⟩ (rt1 ?_)
    exact gl_iret dX0_mark_107 rfl (XR.skf 3 3 (by omega) hV) (hc := by first | exact Nat.zero_le _ | (dsimp only [rm]; omega)) (hs := by first | exact Nat.zero_le _ | (dsimp only [rm]; omega))
  | 4, _, e3, hl =>
    rw [if_neg (show ¬ isOf (y.2.2 23 (3 + c)) (nI 5) = true by rw [e3]; decide)]
    refine gl_castX (h := 100) dX0_mark_92 hl (rfl : vwCl[6]? = some (RX6, TX6, 4)) q495 (List.mem_of_getElem? (i := 19) rfl) (by decide +kernel) (by decide +kernel) (by decide +kernel) (by decide +kernel) rfl (exR (by omega)) (by dsimp only [rm]; omega) (by dsimp only [rm]; omega) (Nat.le_trans (by decide) h33) (List.cons_ne_nil _ _) sr_mk5 ?_
    refine gl_mem (μ1 := mX (o.1 + 3, o.2) x) rfl ?_
    refine gl_astore dX0_mark_100 rfl rfl ?_
    refine gl_aload_n dX0_mark_102 rfl ?_
    refine gl_iconst (v := nI 3) dX0_mark_103 (by decide) ?_
    refine gl_callV (x_found L (o.1 + 3, o.2) x 3 (by omega)) dX0_mark_104 q301 q303 qs2 q74 q304 rfl hX0_found rfl (rfl : vwCl[0]? = some (RX0, TX0, 30)) rfl rfl (rmOk (by omega) rfl) ⟨by first | exact Nat.le_refl _ | exact Nat.zero_le _ | decide | (dsimp only [rm]; omega), by first | exact Nat.le_refl _ | exact Nat.zero_le _ | decide | (dsimp only [rm]; omega)⟩ (rt1 ?_)
    exact gl_iret dX0_mark_107 rfl (XR.skf 3 3 (by omega) hV) (hc := by first | exact Nat.zero_le _ | (dsimp only [rm]; omega)) (hs := by first | exact Nat.zero_le _ | (dsimp only [rm]; omega))
  | 5, _, e3, hl =>
    rw [if_pos (show isOf (y.2.2 23 (3 + c)) (nI 5) = true by rw [e3]; decide)]
    rw [if_neg (show ¬ nI 5 = 4 by decide), mk_l5 hL]
    refine gl_cast dX0_mark_92 hl (rfl : vwCl[7]? = some (RX7, TX7, 4)) q495 (Or.inl rfl) ?_
    refine gl_aload_n dX0_mark_95 rfl ?_
    refine gl_callV (c_before L hX hL hc e e3) dX0_mark_96 q702 q703 q704 q91 q705 rfl hX7_before hl (rfl : vwCl[7]? = some (RX7, TX7, 4)) rfl rfl (rmOk (by omega) rfl) ⟨by first | exact Nat.le_refl _ | exact Nat.zero_le _ | decide | (dsimp only [rm]; omega), by first | exact Nat.le_refl _ | exact Nat.zero_le _ | decide | (dsimp only [rm]; omega)⟩ (rt1 ?_)
    exact gl_iret dX0_mark_99 rfl (XR.same hV) (hc := by first | exact Nat.zero_le _ | (dsimp only [rm]; omega)) (hs := by first | exact Nat.zero_le _ | (dsimp only [rm]; omega))
theorem x_mark (hV : RV o τ x y n m t) (c kd : Int32) : Ct yX0_mark gX0_mark (L + 20) 3 850 [.ref 1, .int c, .int kd] (mX o x) (XR o (sp_mark y c kd)) := by
  refine Ct.ofW rfl (List.cons_ne_nil _ _) rfl rfl rfl ?_
  have h33 := hV.h33
  have hL := hV.lb
  have h7 := hL.c7
  refine gl_aload_n dX0_mark_0 rfl ?_
  refine gl_iload_n dX0_mark_1 rfl ?_
  refine gl_callV (x_isCard L o x hV.rl _) dX0_mark_2 q517 q519 qs9 q74 q520 rfl hX0_isCard rfl (rfl : vwCl[0]? = some (RX0, TX0, 30)) rfl rfl (rmOk (by omega) rfl) ⟨by first | exact Nat.le_refl _ | exact Nat.zero_le _ | decide | (dsimp only [rm]; omega), by first | exact Nat.le_refl _ | exact Nat.zero_le _ | decide | (dsimp only [rm]; omega)⟩ (rt1 ?_)
  refine gl_if_eq (tgt := 17) dX0_mark_5 (by decide) (fun h5 => ?_) (fun h5 => ?_)
  · unfold sp_mark
    rw [hL.c, if_neg (by simp [bI_fa h5])]
    refine gl_iconst (v := (-1)) dX0_mark_17 (by decide) ?_
    exact gl_iret dX0_mark_18 rfl (XR.same hV) (hc := by first | exact Nat.zero_le _ | (dsimp only [rm]; omega)) (hs := by first | exact Nat.zero_le _ | (dsimp only [rm]; omega))
  · have hc := bI_tr h5
    refine gl_iload_n dX0_mark_8 rfl ?_
    refine gl_iconst (v := nI 1) dX0_mark_9 (by decide) ?_
    refine gl_iconst (v := nI 5) dX0_mark_10 (by decide) ?_
    refine gl_callS (x_isIn L (mX o x) kd _ _) dX0_mark_11 q298 q299 q74 q300 rfl hX0_isIn rfl rfl (rmOk (by omega) rfl) ⟨by first | exact Nat.le_refl _ | exact Nat.zero_le _ | decide | (dsimp only [rm]; omega), by first | exact Nat.le_refl _ | exact Nat.zero_le _ | decide | (dsimp only [rm]; omega)⟩ (rt1 ?_)
    refine gl_if_ne (tgt := 19) dX0_mark_14 (by decide) (fun h14 => ?_) (fun h14 => ?_)
    · have hk := bI_tr h14
      unfold sp_mark
      rw [hL.c, if_pos (by rw [hc, show inR kd 1 5 = true from hk]; rfl)]
      obtain ⟨c, hcn, rfl⟩ := inR_n (by omega) hc
      obtain ⟨q, h1, hq, rfl⟩ := inR_nat (a := 1) (b := 5) (by omega) (by omega) hk
      rw [ix_nI (show c < 100 by omega)]
      obtain ⟨k, e, -⟩ := hV.rl.card c hcn
      refine gl_aload_n dX0_mark_19 rfl ?_
      refine gl_get (k := 8) dX0_mark_20 rfl (rfl : vwCl[0]? = some (RX0, TX0, 30)) in_X0 (by decide) q121 rfl ?_
      refine gl_iload_n dX0_mark_23 rfl ?_
      refine gl_aald (j := c) dX0_mark_24 rfl rfl (by omega) e ?_
      refine gl_astore_n dX0_mark_25 rfl rfl ?_
      match q, h1, hq with
      | 1, _, _ => exact x_mk1 L hV hcn e
      | 2, _, _ => exact x_mk2 L hV hcn e
      | 3, _, _ => exact x_mk3 L hV hcn e
      | 4, _, _ => exact x_mk4 L hV hcn e
      | 5, _, _ => exact x_mk5 L hV hcn e
    · unfold sp_mark
      rw [hL.c, if_neg (by simp [show inR kd 1 5 = false from bI_fa h14])]
      refine gl_iconst (v := (-1)) dX0_mark_17 (by decide) ?_
      exact gl_iret dX0_mark_18 rfl (XR.same hV) (hc := by first | exact Nat.zero_le _ | (dsimp only [rm]; omega)) (hs := by first | exact Nat.zero_le _ | (dsimp only [rm]; omega))
end XMk

