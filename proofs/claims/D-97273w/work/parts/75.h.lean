/-! the component: matched, wished; what tests best -/
set_option maxRecDepth 100000
section XH
variable (L : Nat) {o : OX} {τ : Nat → Nat} {x : XY} {y : MY} {n m t : Nat}
theorem x_matchTo (hV : RV o τ x y n m t) (b : Bool) (r : Int32) : Ct yX0_matchTo gX0_matchTo (L + 29) 1 7 [.ref 1, .int r, .int (bI b)] (mX o x) (XRJ o (sp_match y n m b r)) := by
  refine Ct.of rfl rfl rfl rfl rfl ?_
  have h33 := hV.h33
  have hX := hV.rl
  have hL := hV.lb
  have h7 := hL.c7
  have h7q := hL.q7
  unfold sp_match
  refine gl_iload_n dX0_matchTo_0 rfl ?_
  refine gl_callS (x_isRow L _ _) dX0_matchTo_1 q295 q296 q74 q297 rfl hX0_isRow rfl rfl (rmOk (by omega) rfl) ⟨by first | exact Nat.le_refl _ | exact Nat.zero_le _ | decide | (dsimp only [rm]; omega), by first | exact Nat.le_refl _ | exact Nat.zero_le _ | decide | (dsimp only [rm]; omega)⟩ (rt1 ?_)
  refine gl_if_ne (tgt := 9) dX0_matchTo_4 (by decide) (fun h4 => ?_) (fun h4 => ?_)
  · have hr := bI_tr h4
    rw [if_pos hr]
    obtain ⟨k, -, hk, rfl⟩ := inR_nat (a := 0) (b := 5) (by omega) (by omega) hr
    rw [ix_nI (show k < 100 by omega)]
    obtain ⟨lb1, lb2⟩ := lay_best y hL b (x.2.2.1 15)
    refine gl_aload_n dX0_matchTo_9 rfl ?_
    refine gl_iconst (v := (-1)) dX0_matchTo_10 (by decide) ?_
    refine gl_put (k := 25) dX0_matchTo_11 rfl (rfl : vwCl[0]? = some (RX0, TX0, 30)) in_X0 tyX0 tyX0_ok nmX0 (by decide) rfl q138 (fun _ _ => ⟨rfl, rfl⟩) rfl ?_
    refine gl_aload_n dX0_matchTo_14 rfl ?_
    refine gl_iconst (v := nI 0) dX0_matchTo_15 (by decide) ?_
    refine gl_aload_n dX0_matchTo_16 rfl ?_
    refine gl_mem (μ1 := mX o (bX x (x.2.2.1 14) (-1) (x.2.2.1 15))) rfl ?_
    refine gl_callV (x_freeCards L o (bX x (x.2.2.1 14) (-1) (x.2.2.1 15)) (show RL o τ (bX x (x.2.2.1 14) (-1) (x.2.2.1 15)) (y.2.2 23) n m t from hX) hL) dX0_matchTo_17 q815 q817 qs26 q74 q818 rfl hX0_freeCards rfl (rfl : vwCl[0]? = some (RX0, TX0, 30)) rfl rfl (rmOk (by omega) rfl) ⟨by first | exact Nat.le_refl _ | exact Nat.zero_le _ | decide | (dsimp only [rm]; omega), by first | exact Nat.le_refl _ | exact Nat.zero_le _ | decide | (dsimp only [rm]; omega)⟩ (rt1 ?_)
    rw [lf_all]
    refine gl_iconst (v := nI 0) dX0_matchTo_20 (by decide) ?_
    refine gl_iload_n dX0_matchTo_21 rfl ?_
    refine gl_callV (x_bestOn L hX hL b m 0 (by omega) (fun _ => false) (fun _ => 0) (nI 0) (x.2.2.1 14) (x.2.2.1 15) (-1, x.2.2.1 15) (fun j hj => absurd hj (Nat.not_lt_zero j)) (fun _ _ => rfl)) dX0_matchTo_22 q819 q821 qs27 q74 q822 rfl hX0_bestOn rfl (rfl : vwCl[0]? = some (RX0, TX0, 30)) rfl rfl (rmOk (by omega) rfl) ⟨by first | exact Nat.le_refl _ | exact Nat.zero_le _ | decide | (dsimp only [rm]; omega), by first | exact Nat.le_refl _ | exact Nat.zero_le _ | decide | (dsimp only [rm]; omega)⟩ ?_
    generalize wk (mayB (y.2.2 23) m) (wtI (y.2.2 23) b) n (VB n) m 0 (fun _ => false) (fun _ => 0) (nI 0) (-1, x.2.2.1 15) = S at lb1 lb2 ⊢
    generalize layQ y n m b = Q at lb1 lb2 ⊢
    rintro _ _ ⟨rfl, A, B, -, hB, rfl⟩
    rw [← lb1]
    refine gl_aload_n dX0_matchTo_25 rfl ?_
    refine gl_get (k := 5) dX0_matchTo_26 rfl (rfl : vwCl[0]? = some (RX0, TX0, 30)) in_X0 (by decide) q117 rfl ?_
    refine gl_iload_n dX0_matchTo_29 rfl ?_
    refine gl_aload_n dX0_matchTo_30 rfl ?_
    refine gl_get (k := 9) dX0_matchTo_31 rfl (rfl : vwCl[0]? = some (RX0, TX0, 30)) in_X0 (by decide) q122 rfl ?_
    refine gl_top (w := .int (nI m)) (congrArg Value.int hX.askMany) ?_
    refine gl_newa (index := 0) (t := 0) (N := m) dX0_matchTo_34 rfl q204 rfl (by omega) (pok_hi h33) (by dsimp only [rm]; omega) (by dsimp only [rm]; omega) ?_
    refine gl_mem (psh_hi h33) ?_
    refine gl_aast (j := k) dX0_matchTo_36 rfl rfl (by omega) ((lk_hi h33).trans (va_up_self _ _ _)) (fun _ _ _ => ⟨rfl, by omega⟩) ?_
    refine gl_mem (μ1 := mX (oN o (.inl (0, m, fun _ => 0))) (tR (bX x A Q.1 B) 3 (va_up (x.2.2.2.1 3) k (some o.1)))) rfl ?_
    refine gl_aload_n dX0_matchTo_37 rfl ?_
    refine gl_get (k := 24) dX0_matchTo_38 rfl (rfl : vwCl[0]? = some (RX0, TX0, 30)) in_X0 (by decide) q137 rfl ?_
    refine gl_iconst (v := nI 0) dX0_matchTo_41 (by decide) ?_
    refine gl_aload_n dX0_matchTo_42 rfl ?_
    refine gl_get (k := 5) dX0_matchTo_43 rfl (rfl : vwCl[0]? = some (RX0, TX0, 30)) in_X0 (by decide) q117 rfl ?_
    refine gl_iload_n dX0_matchTo_46 rfl ?_
    refine gl_aald (j := k) dX0_matchTo_47 rfl rfl (by omega) (va_up_self _ _ _) ?_
    refine gl_iconst (v := nI 0) dX0_matchTo_48 (by decide) ?_
    refine gl_aload_n dX0_matchTo_49 rfl ?_
    refine gl_get (k := 9) dX0_matchTo_50 rfl (rfl : vwCl[0]? = some (RX0, TX0, 30)) in_X0 (by decide) q122 rfl ?_
    refine gl_top (w := .int (nI m)) (congrArg Value.int hX.askMany) ?_
    refine gl_copy (n0 := 15) (n1 := o.1) (sp := 0) (dp := 0) (k := m) (k1 := m) (g := fun _ => 0) dX0_matchTo_53 q371 rfl ((lk_hi h33).trans (va_up_self _ _ _)) rfl rfl rfl (by omega) (by omega) (by omega) (by omega) rfl (copyR (by omega)) ?_
    refine gl_mem (μ1 := mX (oN o (.inl (0, m, va_cpy B (fun _ => 0) 0 0 m))) (tR (bX x A Q.1 B) 3 (va_up (x.2.2.2.1 3) k (some o.1)))) (by rw [up_hi h33, oP_oN]; rfl) ?_
    refine gl_aload_n dX0_matchTo_56 rfl ?_
    refine gl_get (k := 25) dX0_matchTo_57 rfl (rfl : vwCl[0]? = some (RX0, TX0, 30)) in_X0 (by decide) q138 rfl ?_
    exact gl_iret dX0_matchTo_60 rfl ⟨rfl, oN o _, tR (bX x A Q.1 B) 3 (va_up (x.2.2.2.1 3) k (some o.1)), va_up τ o.1 k, n, m, t, rfl, ⟨rfl, rfl⟩, fun A0 => RV.rowS (x := bX x A Q.1 B) (y := mqS y A0 Q) (r := k) (show RV o τ (bX x A Q.1 B) (mqS y A0 Q) n m t from hV) (by omega) (Nat.le_succ_of_le h33) (fun _ _ _ _ q => q.new) (fun j hj => va_up_ne _ _ hj) (fun j hj => pk_un hj) (fun j hj i hi => by rw [pk_cpy_out (by omega)]; unfold fillI; rw [if_neg (by omega)]) (Or.inr ⟨o.1, m, va_cpy B (fun _ => 0) 0 0 m, va_up_self _ _ _, Own.news h33, pk_us, by omega, fun i hi => by show va_cpy B (fun _ => 0) 0 0 m i = va_cpy Q.2.2.2 _ 0 (40 * k) m (40 * k + i); rw [pk_cpy_in (by omega) (by omega), pk_cpy_in (by omega) (by omega), show 0 + (40 * k + i - 40 * k) = i by omega, Nat.zero_add, Nat.sub_zero, hB i hi, lb2 i hi]⟩)⟩ (hc := by first | exact Nat.zero_le _ | (dsimp only [rm]; omega)) (hs := by first | exact Nat.zero_le _ | (dsimp only [rm]; omega))
  · rw [if_neg (by simp [bI_fa h4])]
    refine gl_iconst (v := (-1)) dX0_matchTo_7 (by decide) ?_
    exact gl_iret dX0_matchTo_8 rfl ⟨rfl, o, x, τ, n, m, t, rfl, ⟨rfl, rfl⟩, fun _ => hV⟩ (hc := by first | exact Nat.zero_le _ | (dsimp only [rm]; omega)) (hs := by first | exact Nat.zero_le _ | (dsimp only [rm]; omega))
theorem x_match (hV : RV o τ x y n m t) (r : Int32) : Ct yX0_match gX0_match (L + 30) 1 7 [.ref 1, .int r] (mX o x) (XRJ o (sp_match y n m false r)) := by
  refine Ct.of rfl rfl rfl rfl rfl ?_
  refine gl_aload_n dX0_match_0 rfl ?_
  refine gl_iload_n dX0_match_1 rfl ?_
  refine gl_iconst (v := nI 0) dX0_match_2 (by decide) ?_
  refine gl_callV (x_matchTo L hV false r) dX0_match_3 q811 q813 qs25 q74 q814 rfl hX0_matchTo rfl (rfl : vwCl[0]? = some (RX0, TX0, 30)) rfl rfl (rmOk (by omega) rfl) ⟨by first | exact Nat.le_refl _ | exact Nat.zero_le _ | decide | (dsimp only [rm]; omega), by first | exact Nat.le_refl _ | exact Nat.zero_le _ | decide | (dsimp only [rm]; omega)⟩ ?_
  rintro _ _ ⟨rfl, h⟩
  exact gl_iret dX0_match_6 rfl ⟨rfl, h⟩ (hc := by first | exact Nat.zero_le _ | (dsimp only [rm]; omega)) (hs := by first | exact Nat.zero_le _ | (dsimp only [rm]; omega))
theorem x_wished (hV : RV o τ x y n m t) (r : Int32) : Ct yX0_wished gX0_wished (L + 30) 1 7 [.ref 1, .int r] (mX o x) (XRJ o (sp_match y n m true r)) := by
  refine Ct.of rfl rfl rfl rfl rfl ?_
  refine gl_aload_n dX0_wished_0 rfl ?_
  refine gl_iload_n dX0_wished_1 rfl ?_
  refine gl_iconst (v := nI 1) dX0_wished_2 (by decide) ?_
  refine gl_callV (x_matchTo L hV true r) dX0_wished_3 q811 q813 qs25 q74 q814 rfl hX0_matchTo rfl (rfl : vwCl[0]? = some (RX0, TX0, 30)) rfl rfl (rmOk (by omega) rfl) ⟨by first | exact Nat.le_refl _ | exact Nat.zero_le _ | decide | (dsimp only [rm]; omega), by first | exact Nat.le_refl _ | exact Nat.zero_le _ | decide | (dsimp only [rm]; omega)⟩ ?_
  rintro _ _ ⟨rfl, h⟩
  exact gl_iret dX0_wished_6 rfl ⟨rfl, h⟩ (hc := by first | exact Nat.zero_le _ | (dsimp only [rm]; omega)) (hs := by first | exact Nat.zero_le _ | (dsimp only [rm]; omega))
theorem ts_skip {Q : QS} {k : Nat} : ∀ d, (∀ i, k ≤ i → i < k + d → ¬ 0 < Q.2.2.1 i) → tsS Q (k + d) = tsS Q k
  | 0, _ => rfl
  | d + 1, h => by
    show (if 0 < Q.2.2.1 (k + d) ∧ _ then _ else tsS Q (k + d)) = tsS Q k
    rw [if_neg (fun z => h (k + d) (by omega) (by omega) z.1)]
    exact ts_skip d (fun i h1 h2 => h i h1 (by omega))
def lsC (p : Int32 × Int32) : Int32 := if p.1 = -9 then 1048576 else p.2
theorem cL_0 {p : LF → Bool} (h : ∀ f, p f = false) : ∀ l, cL p l = 0
  | [] => rfl
  | f :: l => by unfold cL; rw [cL_0 h l, h f]; rfl
theorem inF_0 {M : Int32} {n m q c : Nat} (h : m ≤ q ∨ n ≤ c) (f : LF) : inF M n m q c f = false := by
  unfold inF
  have e : (decide (q < m) && decide (c < n)) = false := by
    rcases h with h | h
    · rw [decide_eq_false (by omega)]; rfl
    · rw [decide_eq_false (show ¬ c < n by omega), Bool.and_false]
  rw [e, Bool.false_and, Bool.and_false]
theorem wo_max {a N : Nat} (ha : a ≤ N) (hN : N ≤ 130922) : (if nI N < nI 2 * nI a then nI a else nI N - nI a) = if nI a < nI N - nI a then nI N - nI a else nI a := by
  rw [nI_mul, nI_sub ha]
  by_cases h : N < 2 * a
  · rw [if_pos (nI_lt h (by omega)), if_neg (nI_nlt (by omega) (by omega))]
  · rw [if_neg (nI_nlt (by omega) (by omega))]
    by_cases h2 : a < N - a
    · rw [if_pos (nI_lt h2 (by omega))]
    · rw [if_neg (nI_nlt (by omega) (by omega)), show N - a = a by omega]
theorem x_test (hV : RV o τ x y n m t) : Ct yX0_test gX0_test (L + 30) 0 0 [.ref 1] (mX o x) (XRJ o (sp_test y n m)) := by
  refine Ct.of rfl rfl rfl rfl rfl ?_
  have hX := hV.rl
  have hL := hV.lb
  have h7 := hL.c7
  have h7q := hL.q7
  unfold sp_test
  obtain ⟨Mx, hM, eM, eAll, eW, hpos, hlen⟩ := lay_full y hL
  have b0 := cL_le (fun f => f.2 == (layQ y n m false).1) (lvL (y.2.2 23) n m)
  have hWb : ∀ q c, q < 7 → c < 7 → ∃ a, a ≤ cL (fun f => f.2 == (layQ y n m false).1) (lvL (y.2.2 23) n m) ∧ (layQ y n m false).2.2.1 (7 * q + c) = nI a := fun q c hq hc => ⟨_, cL_mono (fun f _ z => by unfold inF at z; rw [Bool.and_eq_true] at z; exact z.1), eW q c hq hc⟩
  have hW0 : ∀ q c, q < 7 → c < 7 → (m ≤ q ∨ n ≤ c) → ¬ 0 < (layQ y n m false).2.2.1 (7 * q + c) := fun q c hq hc h => by
    rw [eW q c hq hc, cL_0 (inF_0 h)]
    decide
  generalize cL (fun f => f.2 == (layQ y n m false).1) (lvL (y.2.2 23) n m) = N at eAll hpos b0 hWb
  clear eW
  refine gl_aload_n dX0_test_0 rfl ?_
  refine gl_callV (x_setFullest L hV) dX0_test_1 q838 q840 qs29 q74 q841 rfl hX0_setFullest rfl (rfl : vwCl[0]? = some (RX0, TX0, 30)) rfl rfl (rmOk (by omega) rfl) ⟨by first | exact Nat.le_refl _ | exact Nat.zero_le _ | decide | (dsimp only [rm]; omega), by first | exact Nat.le_refl _ | exact Nat.zero_le _ | decide | (dsimp only [rm]; omega)⟩ ?_
  generalize layQ y n m false = Q at eM eAll hWb hW0 ⊢
  rintro _ _ ⟨rfl, A, B, A', W, bw, hW, rfl⟩
  refine gl_bipush (v := (-9)) dX0_test_4 (by decide) ?_
  refine gl_istore_n dX0_test_6 rfl rfl ?_
  refine gl_ldc_w (v := 1048576) q858 dX0_test_7 ?_
  refine gl_istore_n dX0_test_10 rfl rfl ?_
  refine gl_iconst (v := nI 0) dX0_test_11 (by decide) ?_
  refine gl_istore_n dX0_test_12 rfl rfl ?_
  refine gl_loop (fun q => [some (.ref 1), some (.int (tsS Q (7 * q)).1), some (.int (lsC (tsS Q (7 * q)))), some (.int (nI q)), none, none, none, none]) (fun _ => mX o (fX (bX x A bw B) A' Q.2.1 W)) m ?_ ?_
  · intro q hq ih
    refine gl_iload_n dX0_test_13 rfl ?_
    refine gl_aload_n dX0_test_14 rfl ?_
    refine gl_get (k := 9) dX0_test_15 rfl (rfl : vwCl[0]? = some (RX0, TX0, 30)) in_X0 (by decide) q122 rfl ?_
    refine gl_icmp_ge (tgt := 129) dX0_test_18 (by decide) (fun h => absurd h ((by show ¬ x.1 9 ≤ nI q; rw [hX.askMany]; exact nI_ge hq (by omega)))) (fun _ => ?_)
    refine gl_iconst (v := nI 0) dX0_test_21 (by decide) ?_
    refine gl_istore dX0_test_22 rfl rfl ?_
    refine gl_loop (fun c => [some (.ref 1), some (.int (tsS Q (7 * q + c)).1), some (.int (lsC (tsS Q (7 * q + c)))), some (.int (nI q)), some (.int (nI c)), none, none, none]) (fun _ => mX o (fX (bX x A bw B) A' Q.2.1 W)) n ?_ ?_
    · intro c hc ih2
      obtain ⟨a, ha, ea⟩ := hWb q c (by omega) (by omega)
      have hw := (hW (7 * q + c) (by omega)).trans ea
      have es : tsS Q (7 * q + c + 1) = if 0 < Q.2.2.1 (7 * q + c) ∧ Q.2.2.1 (7 * q + c) < Q.2.1 ∧ ((tsS Q (7 * q + c)).1 = -9 ∨ woI Q (7 * q + c) < (tsS Q (7 * q + c)).2) then (nI (10 * ((7 * q + c) / 7) + (7 * q + c) % 7), woI Q (7 * q + c)) else tsS Q (7 * q + c) := rfl
      have ewo : woI Q (7 * q + c) = if nI a < Q.2.1 - nI a then Q.2.1 - nI a else nI a := by
        unfold woI
        rw [ea, eAll]
        exact wo_max ha (by omega)
      rw [show (7 * q + c) / 7 = q by omega, show (7 * q + c) % 7 = c by omega] at es
      rw [show 7 * q + (c + 1) = 7 * q + c + 1 from rfl] at ih2
      have hbd : 0 < nI a → nI a < Q.2.1 → woI Q (7 * q + c) < 1048576 := fun p1 p2 => by
        rw [eAll] at p2 ewo
        have p1' : 0 < a := (nI_ltI (a := 0) (by omega) (by omega)).mp p1
        have p2' := (nI_ltI (by omega) (by omega)).mp p2
        rw [ewo, nI_sub ha]
        split
        · exact nI_lt (b := 1048576) (by omega) (by omega)
        · exact nI_lt (b := 1048576) (by omega) (by omega)
      have hne : ¬ nI (10 * q + c) = -9 := nI_ne9 (by omega)
      generalize tsS Q (7 * q + c) = p at es ih2 ⊢
      generalize woI Q (7 * q + c) = wo at es ewo hbd
      rw [ea] at es
      have tl : ∀ bb : Bool, (bb = true ↔ (0 < nI a ∧ nI a < Q.2.1 ∧ (p.1 = -9 ∨ wo < p.2))) → GL gX0_test (rm (L + 30) 0 0) (XRJ o ((tsS Q 49).1, fun A => if (tsS Q 49).1 = -9 then mqS y A Q else sI (mqS y A Q) 7 (tsS Q 49).2)) 0 0 86 [some (.ref 1), some (.int p.1), some (.int (lsC p)), some (.int (nI q)), some (.int (nI c)), some (.int (nI a)), some (.int wo), none] [.int (bI bb)] (mX o (fX (bX x A bw B) A' Q.2.1 W)) := by
        intro bb hbb
        cases bb with
        | true =>
          rw [if_pos (hbb.mp rfl)] at es
          rw [es] at ih2
          refine gl_istore dX0_test_86 rfl rfl ?_
          refine gl_iload dX0_test_88 rfl ?_
          refine gl_if_eq (tgt := 103) dX0_test_90 (by decide) (fun h => absurd h ((by decide))) (fun _ => ?_)
          refine gl_bipush (v := nI 10) dX0_test_93 (by decide) ?_
          refine gl_iload_n dX0_test_95 rfl ?_
          refine gl_imul dX0_test_96 ?_
          refine gl_iload dX0_test_97 rfl ?_
          refine gl_iadd dX0_test_99 ?_
          refine gl_goto (tgt := 104) dX0_test_100 (by decide) ?_
          rw [nI_mul, nI_add]
          refine gl_istore_n dX0_test_104 rfl rfl ?_
          refine gl_iload dX0_test_105 rfl ?_
          refine gl_if_eq (tgt := 115) dX0_test_107 (by decide) (fun h => absurd h ((by decide))) (fun _ => ?_)
          refine gl_iload dX0_test_110 rfl ?_
          refine gl_goto (tgt := 116) dX0_test_112 (by decide) ?_
          refine gl_istore_n dX0_test_116 rfl rfl ?_
          refine gl_iinc (v := (nI (c + 1))) dX0_test_117 rfl (nI_1 _) rfl rfl ?_
          refine gl_goto (tgt := 24) dX0_test_120 (by decide) ?_
          refine gl_drop 5 (gl_drop 6 (gl_drop 7 (gl_lcs ?_ ih2)))
          simp only [lsC]
          rw [if_neg hne]
          rfl
        | false =>
          rw [if_neg (fun z => by cases hbb.mpr z)] at es
          rw [es] at ih2
          refine gl_istore dX0_test_86 rfl rfl ?_
          refine gl_iload dX0_test_88 rfl ?_
          refine gl_if_eq (tgt := 103) dX0_test_90 (by decide) (fun _ => ?_) (fun h => absurd (rfl) h)
          refine gl_iload_n dX0_test_103 rfl ?_
          refine gl_istore_n dX0_test_104 rfl rfl ?_
          refine gl_iload dX0_test_105 rfl ?_
          refine gl_if_eq (tgt := 115) dX0_test_107 (by decide) (fun _ => ?_) (fun h => absurd (rfl) h)
          refine gl_iload_n dX0_test_115 rfl ?_
          refine gl_istore_n dX0_test_116 rfl rfl ?_
          refine gl_iinc (v := (nI (c + 1))) dX0_test_117 rfl (nI_1 _) rfl rfl ?_
          refine gl_goto (tgt := 24) dX0_test_120 (by decide) ?_
          refine gl_drop 5 (gl_drop 6 (gl_drop 7 ?_))
          exact ih2
      refine gl_iload dX0_test_24 rfl ?_
      refine gl_aload_n dX0_test_26 rfl ?_
      refine gl_get (k := 7) dX0_test_27 rfl (rfl : vwCl[0]? = some (RX0, TX0, 30)) in_X0 (by decide) q119 rfl ?_
      refine gl_icmp_ge (tgt := 123) dX0_test_30 (by decide) (fun h => absurd h ((by show ¬ x.1 7 ≤ nI c; rw [hX.many]; exact nI_ge hc (by omega)))) (fun _ => ?_)
      refine gl_aload_n dX0_test_33 rfl ?_
      refine gl_get (k := 27) dX0_test_34 rfl (rfl : vwCl[0]? = some (RX0, TX0, 30)) in_X0 (by decide) q140 rfl ?_
      refine gl_bipush (v := nI 7) dX0_test_37 (by decide) ?_
      refine gl_iload_n dX0_test_39 rfl ?_
      refine gl_imul dX0_test_40 ?_
      refine gl_iload dX0_test_41 rfl ?_
      refine gl_iadd dX0_test_43 ?_
      refine gl_iald (j := ((7 * q) + c)) dX0_test_44 rfl (by simp only [nI_add, nI_mul]) (by omega) ?_
      refine gl_top (w := .int (nI a)) (congrArg Value.int hw) ?_
      refine gl_istore dX0_test_45 rfl rfl ?_
      refine gl_iload dX0_test_47 rfl ?_
      refine gl_aload_n dX0_test_49 rfl ?_
      refine gl_get (k := 26) dX0_test_50 rfl (rfl : vwCl[0]? = some (RX0, TX0, 30)) in_X0 (by decide) q139 rfl ?_
      refine gl_iload dX0_test_53 rfl ?_
      refine gl_isub dX0_test_55 ?_
      refine gl_callS (j_max L _ _ _) dX0_test_56 q859 q860 q94 q861 rfl hJ10_max rfl rfl (rmOk (by omega) rfl) ⟨by first | exact Nat.le_refl _ | exact Nat.zero_le _ | decide | (dsimp only [rm]; omega), by first | exact Nat.le_refl _ | exact Nat.zero_le _ | decide | (dsimp only [rm]; omega)⟩ (rt1 ?_)
      refine gl_top (w := .int wo) (congrArg Value.int ewo.symm) ?_
      refine gl_istore dX0_test_59 rfl rfl ?_
      refine gl_iload dX0_test_61 rfl ?_
      refine gl_if_le (tgt := 85) dX0_test_63 (by decide) (fun h63 => ?_) (fun h63 => ?_)
      · refine gl_iconst (v := nI 0) dX0_test_85 (by decide) ?_
        exact tl false ⟨fun z => Bool.noConfusion z, fun z => absurd z.1 (k2_nlt h63)⟩
      · refine gl_iload dX0_test_66 rfl ?_
        refine gl_aload_n dX0_test_68 rfl ?_
        refine gl_get (k := 26) dX0_test_69 rfl (rfl : vwCl[0]? = some (RX0, TX0, 30)) in_X0 (by decide) q139 rfl ?_
        refine gl_icmp_ge (tgt := 85) dX0_test_72 (by decide) (fun h72 => ?_) (fun h72 => ?_)
        · refine gl_iconst (v := nI 0) dX0_test_85 (by decide) ?_
          exact tl false ⟨fun z => Bool.noConfusion z, fun z => absurd z.2.1 (k2_nlt h72)⟩
        · refine gl_iload dX0_test_75 rfl ?_
          refine gl_iload_n dX0_test_77 rfl ?_
          refine gl_icmp_ge (tgt := 85) dX0_test_78 (by decide) (fun h78 => ?_) (fun h78 => ?_)
          · refine gl_iconst (v := nI 0) dX0_test_85 (by decide) ?_
            refine tl false ⟨fun z => Bool.noConfusion z, fun z => ?_⟩
            exfalso
            refine absurd ?_ (k2_nlt h78)
            unfold lsC
            by_cases e9 : p.1 = -9
            · rw [if_pos e9]; exact hbd z.1 z.2.1
            · rw [if_neg e9]; exact z.2.2.resolve_left e9
          · refine gl_iconst (v := nI 1) dX0_test_81 (by decide) ?_
            refine gl_goto (tgt := 86) dX0_test_82 (by decide) ?_
            refine tl true ⟨fun _ => ⟨k2_lt h63, k2_lt h72, ?_⟩, fun _ => rfl⟩
            have h := k2_lt h78
            unfold lsC at h
            by_cases e9 : p.1 = -9
            · exact Or.inl e9
            · rw [if_neg e9] at h; exact Or.inr h
    · refine gl_iload dX0_test_24 rfl ?_
      refine gl_aload_n dX0_test_26 rfl ?_
      refine gl_get (k := 7) dX0_test_27 rfl (rfl : vwCl[0]? = some (RX0, TX0, 30)) in_X0 (by decide) q119 rfl ?_
      refine gl_icmp_ge (tgt := 123) dX0_test_30 (by decide) (fun _ => ?_) (fun h => absurd ((by show x.1 7 ≤ nI n; rw [hX.many]; exact nI_le (Nat.le_refl _) (by omega))) h)
      refine gl_iinc (v := (nI (q + 1))) dX0_test_123 rfl (nI_1 _) rfl rfl ?_
      refine gl_goto (tgt := 13) dX0_test_126 (by decide) ?_
      refine gl_drop 4 (gl_lcs ?_ ih)
      rw [show 7 * (q + 1) = 7 * q + n + (7 - n) by omega, ts_skip (7 - n) (fun i h1 h2 => by rw [show i = 7 * q + (i - 7 * q) by omega]; exact hW0 q (i - 7 * q) (by omega) (by omega) (Or.inr (by omega)))]
      rfl
  · have e49 : tsS Q 49 = tsS Q (7 * m) := by
      rw [show 49 = 7 * m + (49 - 7 * m) by omega, ts_skip (49 - 7 * m) (fun i h1 h2 => by rw [show i = 7 * (i / 7) + i % 7 by omega]; exact hW0 (i / 7) (i % 7) (by omega) (by omega) (Or.inl (by omega)))]
    rw [e49]
    generalize tsS Q (7 * m) = p
    refine gl_iload_n dX0_test_13 rfl ?_
    refine gl_aload_n dX0_test_14 rfl ?_
    refine gl_get (k := 9) dX0_test_15 rfl (rfl : vwCl[0]? = some (RX0, TX0, 30)) in_X0 (by decide) q122 rfl ?_
    refine gl_icmp_ge (tgt := 129) dX0_test_18 (by decide) (fun _ => ?_) (fun h => absurd ((by show x.1 9 ≤ nI m; rw [hX.askMany]; exact nI_le (Nat.le_refl _) (by omega))) h)
    refine gl_iload_n dX0_test_129 rfl ?_
    refine gl_bipush (v := (-9)) dX0_test_130 (by decide) ?_
    refine gl_icmp_ne (tgt := 140) dX0_test_132 (by decide) (fun h132 => ?_) (fun h132 => ?_)
    · refine gl_aload_n dX0_test_140 rfl ?_
      refine gl_iload_n dX0_test_141 rfl ?_
      refine gl_iload_n dX0_test_142 rfl ?_
      unfold lsC
      rw [if_neg h132]
      refine gl_callV (x_ask L o (fX (bX x A bw B) A' Q.2.1 W) _ _) dX0_test_143 q357 q359 qs3 q74 q360 rfl hX0_ask rfl (rfl : vwCl[0]? = some (RX0, TX0, 30)) rfl rfl (rmOk (by omega) rfl) ⟨by first | exact Nat.le_refl _ | exact Nat.zero_le _ | decide | (dsimp only [rm]; omega), by first | exact Nat.le_refl _ | exact Nat.zero_le _ | decide | (dsimp only [rm]; omega)⟩ (rt1 ?_)
      exact gl_iret dX0_test_146 rfl ⟨rfl, o, tI (fX (bX x A bw B) A' Q.2.1 W) 2 p.2, τ, n, m, t, rfl, ⟨rfl, rfl⟩, fun A0 => by dsimp only; rw [if_neg h132]; exact RV.ask (x := fX (bX x A bw B) A' Q.2.1 W) (show RV o τ (fX (bX x A bw B) A' Q.2.1 W) (mqS y A0 Q) n m t from hV) _⟩ (hc := by first | exact Nat.zero_le _ | (dsimp only [rm]; omega)) (hs := by first | exact Nat.zero_le _ | (dsimp only [rm]; omega))
    · refine gl_bipush (v := (-9)) dX0_test_135 (by decide) ?_
      refine gl_goto (tgt := 146) dX0_test_137 (by decide) ?_
      exact gl_iret dX0_test_146 rfl ⟨by rw [h132], o, fX (bX x A bw B) A' Q.2.1 W, τ, n, m, t, rfl, ⟨rfl, rfl⟩, fun A0 => by dsimp only; rw [if_pos h132]; exact (show RV o τ (fX (bX x A bw B) A' Q.2.1 W) (mqS y A0 Q) n m t from hV)⟩ (hc := by first | exact Nat.zero_le _ | (dsimp only [rm]; omega)) (hs := by first | exact Nat.zero_le _ | (dsimp only [rm]; omega))
end XH

