/-! two libraries beside each other: the law, the component -/
set_option maxRecDepth 100000
theorem nI_beq {a b : Nat} (ha : a < 2 ^ 31) (hb : b < 2 ^ 31) : (nI a == nI b) = decide (a = b) := by
  by_cases h : a = b
  · rw [h]; simp
  · rw [decide_eq_false h]
    cases e : nI a == nI b with
    | false => rfl
    | true => exact absurd ((nI_eq ha hb).mp (eq_of_beq e)) h
def sm (g : Nat → Int32) : Nat → Int32
  | 0 => nI 0
  | k + 1 => sm g k + g k
theorem sm_eq {g h : Nat → Int32} : ∀ {k : Nat}, (∀ i, i < k → g i = h i) → sm g k = sm h k
  | 0, _ => rfl
  | k + 1, e => by unfold sm; rw [sm_eq (fun i hi => e i (by omega)), e k (by omega)]
theorem sm_0 (k : Nat) : sm (fun _ => nI 0) k = nI 0 := by
  induction k with
  | zero => rfl
  | succ k ih => unfold sm; rw [ih]; decide
theorem sm_add (g h : Nat → Int32) : ∀ k, sm (fun i => g i + h i) k = sm g k + sm h k
  | 0 => (by decide : nI 0 = nI 0 + nI 0)
  | k + 1 => by
    unfold sm
    rw [sm_add g h k]
    ac_rfl
theorem sm_cat (g : Nat → Int32) (a : Nat) : ∀ j, sm g (a + j) = sm g a + sm (fun i => g (a + i)) j
  | 0 => by show sm g a = sm g a + nI 0; rw [nI_0, Int32.add_zero]
  | j + 1 => by
    show sm g (a + j) + g (a + j) = sm g a + (sm (fun i => g (a + i)) j + g (a + j))
    rw [sm_cat g a j, Int32.add_assoc]
theorem sm_swap (T : Nat → Nat → Int32) (B : Nat) : ∀ A, sm (fun a => sm (fun b => T a b) B) A = sm (fun b => sm (fun a => T a b) A) B
  | 0 => by rw [show (fun b => sm (fun a => T a b) 0) = fun _ => nI 0 from rfl, sm_0]; rfl
  | A + 1 => by
    show sm (fun a => sm (fun b => T a b) B) A + sm (fun b => T A b) B = sm (fun b => sm (fun a => T a b) A + T A b) B
    rw [sm_add, sm_swap T B A]
theorem sm_10 (g : Nat → Int32) : ∀ k, sm g (10 * k) = sm (fun a => sm (fun b => g (10 * a + b)) 10) k
  | 0 => rfl
  | k + 1 => by
    rw [show 10 * (k + 1) = 10 * k + 10 by omega, sm_cat, sm_10 g k]
    rfl
section BSs
variable {F f w : Nat → Int32} {a s n m t : Nat}
theorem th_t (hf : ∀ i, i < s → f i = F (a + i)) (hz : ∀ i, i < s → ∃ z, z ≤ 59 ∧ F (a + i) = nI z) {kd mn : Nat} (hk : kd < 6) (hm : mn < 10) : thS f true (10 * kd + mn) s = thN F a (nI kd) (nI mn) s := cntI_eq (fun i hi => by
  obtain ⟨z, hz, ez⟩ := hz i hi
  show (f i == nI (10 * kd + mn)) = (F (a + i) % nI 10 == nI mn && (decide (nI kd < 0) || F (a + i) / nI 10 == nI kd))
  rw [hf i hi, ez, nI_rem (by omega) (by omega), nI_div (by omega) (by omega), nI_beq (by omega) (by omega), nI_beq (by omega) (by omega), nI_beq (by omega) (by omega), decide_eq_false (nI_pos (n := kd) (by omega)), Bool.false_or, ← Bool.decide_and]
  exact decide_eq_decide.mpr (by omega))
theorem th_f (hf : ∀ i, i < s → f i = F (a + i)) {mn : Nat} : thS f false mn s = thN F a (-1) (nI mn) s := cntI_eq (fun i hi => by
  show (f i % nI 10 == nI mn) = (F (a + i) % nI 10 == nI mn && (decide ((-1 : Int32) < 0) || F (a + i) / nI 10 == -1))
  rw [hf i hi, show decide ((-1 : Int32) < 0) = true by decide, Bool.true_or, Bool.and_true])
theorem he_t (hL : Lb w n m t) {kd mn : Nat} (hk : kd < 6) (hm : mn < 10) : heS w true (10 * kd + mn) n = heN w (nI kd) (nI mn) n := cntI_eq (fun c hc => by
  have h7 := hL.c7
  obtain ⟨k, hk2, ek⟩ := hL.kind c (by omega)
  obtain ⟨z, hz, ez⟩ := mns_9 hL (c := c) (by omega)
  show (nI 10 * w (3 + c) + mns w c == nI (10 * kd + mn)) = (mns w c == nI mn && (decide (nI kd < 0) || w (3 + c) == nI kd))
  rw [ek, ez, nI_mul, nI_add, nI_beq (by omega) (by omega), nI_beq (by omega) (by omega), nI_beq (by omega) (by omega), decide_eq_false (nI_pos (n := kd) (by omega)), Bool.false_or, ← Bool.decide_and]
  exact decide_eq_decide.mpr (by omega))
theorem he_f {mn : Nat} : heS w false mn n = heN w (-1) (nI mn) n := cntI_eq (fun c hc => by
  show (nI 0 + mns w c == nI mn) = (mns w c == nI mn && (decide ((-1 : Int32) < 0) || w (3 + c) == -1))
  rw [show decide ((-1 : Int32) < 0) = true by decide, Bool.true_or, Bool.and_true, nI_0, Int32.zero_add])
theorem bsK_sm (p : Int32) (k : Nat) : ∀ j, bsK F w a s n p k j = p + sm (fun j => lsI (thN F a (nI j) (nI k) s) (heN w (nI j) (nI k) n)) j
  | 0 => by show p = p + nI 0; rw [nI_0, Int32.add_zero]
  | j + 1 => by
    unfold bsK sm
    rw [bsK_sm p k j, Int32.add_assoc]
theorem bsP_sm : ∀ k, bsP F w a s n k = sm (fun k => sm (fun j => lsI (thN F a (nI j) (nI k) s) (heN w (nI j) (nI k) n)) 6) k
  | 0 => rfl
  | k + 1 => by
    unfold bsP sm
    rw [bsK_sm, bsP_sm k]
theorem bsL_sm : ∀ k, bsL F w a s n k = sm (fun k => lsI (thN F a (-1) (nI k) s) (heN w (-1) (nI k) n)) k
  | 0 => rfl
  | k + 1 => by unfold bsL sm; rw [bsL_sm k]
theorem pw_sm (b : Bool) : ∀ v, pwS w f b n s v = sm (fun v => if b || decide (v < 10) then lsI (thS f b v s) (heS w b v n) else nI 0) v
  | 0 => rfl
  | v + 1 => by unfold pwS sm; rw [pw_sm b v]
theorem pw_t (hL : Lb w n m t) (hf : ∀ i, i < s → f i = F (a + i)) (hz : ∀ i, i < s → ∃ z, z ≤ 59 ∧ F (a + i) = nI z) : pwS w f true n s 60 = bsP F w a s n 10 := by
  rw [pw_sm, bsP_sm, show 60 = 10 * 6 from rfl, sm_10, ← sm_swap (fun kd mn => lsI (thN F a (nI kd) (nI mn) s) (heN w (nI kd) (nI mn) n)) 10 6]
  refine sm_eq (fun kd hk => sm_eq (fun mn hm => ?_))
  rw [if_pos (by rfl), th_t hf hz hk hm, he_t hL hk hm]
theorem pw_f (hf : ∀ i, i < s → f i = F (a + i)) : pwS w f false n s 60 = bsL F w a s n 10 := by
  rw [pw_sm, bsL_sm, show 60 = 10 + 50 from rfl, sm_cat, sm_eq (k := 50) (h := fun _ => nI 0) (fun i hi => by rw [if_neg]; simp), sm_0, nI_0, Int32.add_zero]
  refine sm_eq (fun mn hm => ?_)
  rw [if_pos (by simp [hm]), th_f hf, he_f]
end BSs
theorem allI_t {f : Nat → Int32} {a : Nat} : ∀ {s : Nat}, allI f a s = true → ∀ i, i < s → inR (f (a + i)) 0 59 = true
  | 0, _, i, hi => absurd hi (Nat.not_lt_zero i)
  | s + 1, h, i, hi => by
    unfold allI at h
    rw [Bool.and_eq_true] at h
    by_cases e : i = s
    · rw [e]; exact h.2
    · exact allI_t h.1 i (by omega)
section XBs
variable (L : Nat) {o : OX} {τ : Nat → Nat} {x : XY} {y : MY} {n m t : Nat}
theorem x_beside (hV : RV o τ x y n m t) (r : Int32) : Ct yX0_beside gX0_beside (L + 16) 0 0 [.ref 1, .int r] (mX o x) (XR o (sp_beside y n r)) := by
  refine Ct.of rfl rfl rfl rfl rfl ?_
  unfold sp_beside
  refine gl_iload_n dX0_beside_0 rfl ?_
  refine gl_callS (x_isRow L _ _) dX0_beside_1 q295 q296 q74 q297 rfl hX0_isRow rfl rfl (rmOk (by omega) rfl) ⟨by first | exact Nat.le_refl _ | exact Nat.zero_le _ | decide | (dsimp only [rm]; omega), by first | exact Nat.le_refl _ | exact Nat.zero_le _ | decide | (dsimp only [rm]; omega)⟩ (rt1 ?_)
  refine gl_if_ne (tgt := 9) dX0_beside_4 (by decide) (fun h4 => ?_) (fun h4 => ?_)
  · have hr := bI_tr h4
    rw [if_pos hr]
    obtain ⟨k, -, hk, rfl⟩ := inR_nat (a := 0) (b := 5) (by omega) (by omega) hr
    rw [ix_nI (show k < 100 by omega)]
    rcases hV.row k (by omega) with ⟨e, es⟩ | ⟨p, s, f, e, hO, es, hs, hf⟩
    · rw [es, if_pos (by decide)]
      refine gl_aload_n dX0_beside_9 rfl ?_
      refine gl_get (k := 5) dX0_beside_10 rfl (rfl : vwCl[0]? = some (RX0, TX0, 30)) in_X0 (by decide) q117 rfl ?_
      refine gl_iload_n dX0_beside_13 rfl ?_
      refine gl_aald (j := k) dX0_beside_14 rfl rfl (by omega) e ?_
      refine gl_ifnonnullN dX0_beside_15 ?_
      refine gl_aload_n dX0_beside_18 rfl ?_
      refine gl_iconst (v := nI 1) dX0_beside_19 (by decide) ?_
      refine gl_callV (x_found L o x 1 (by omega)) dX0_beside_20 q301 q303 qs2 q74 q304 rfl hX0_found rfl (rfl : vwCl[0]? = some (RX0, TX0, 30)) rfl rfl (rmOk (by omega) rfl) ⟨by first | exact Nat.le_refl _ | exact Nat.zero_le _ | decide | (dsimp only [rm]; omega), by first | exact Nat.le_refl _ | exact Nat.zero_le _ | decide | (dsimp only [rm]; omega)⟩ (rt1 ?_)
      exact gl_iret dX0_beside_23 rfl (XR.ofnd 1 (by omega) hV) (hc := by first | exact Nat.zero_le _ | (dsimp only [rm]; omega)) (hs := by first | exact Nat.zero_le _ | (dsimp only [rm]; omega))
    · rw [es, if_neg (nI_pos (by omega)), ix_nI (show s < 100 by omega)]
      refine gl_aload_n dX0_beside_9 rfl ?_
      refine gl_get (k := 5) dX0_beside_10 rfl (rfl : vwCl[0]? = some (RX0, TX0, 30)) in_X0 (by decide) q117 rfl ?_
      refine gl_iload_n dX0_beside_13 rfl ?_
      refine gl_aald (j := k) dX0_beside_14 rfl rfl (by omega) e ?_
      refine gl_ifnonnull (tgt := 24) dX0_beside_15 (by decide) ?_
      refine gl_aload_n dX0_beside_24 rfl ?_
      refine gl_get (k := 5) dX0_beside_25 rfl (rfl : vwCl[0]? = some (RX0, TX0, 30)) in_X0 (by decide) q117 rfl ?_
      refine gl_iload_n dX0_beside_28 rfl ?_
      refine gl_aald (j := k) dX0_beside_29 rfl rfl (by omega) e ?_
      refine gl_alen dX0_beside_30 hO.lk ?_
      refine gl_bipush (v := nI 7) dX0_beside_31 (by decide) ?_
      refine gl_icmp_le (tgt := 42) dX0_beside_33 (by decide) (fun h33 => ?_) (fun h33 => ?_)
      · rw [if_neg (k2_nlt h33)]
        have hs7 : s ≤ 7 := (nI_leI (by omega) (by omega)).mp h33
        refine gl_aload_n dX0_beside_42 rfl ?_
        refine gl_get (k := 5) dX0_beside_43 rfl (rfl : vwCl[0]? = some (RX0, TX0, 30)) in_X0 (by decide) q117 rfl ?_
        refine gl_iload_n dX0_beside_46 rfl ?_
        refine gl_aald (j := k) dX0_beside_47 rfl rfl (by omega) e ?_
        refine gl_astore_n dX0_beside_48 rfl rfl ?_
        refine gl_aload_n dX0_beside_49 rfl ?_
        refine gl_alen dX0_beside_50 hO.lk ?_
        refine gl_istore_n dX0_beside_51 rfl rfl ?_
        refine gl_iconst (v := nI 0) dX0_beside_52 (by decide) ?_
        refine gl_istore dX0_beside_53 rfl rfl ?_
        refine dn (Q := fun i => allI (y.2.2 20) (40 * k) i = true → GL gX0_beside (rm (L + 16) 0 0) (XR o (if allI (y.2.2 20) (40 * k) s = true then (bsP (y.2.2 20) (y.2.2 23) (40 * k) s n 10, sI y 7 (bsL (y.2.2 20) (y.2.2 23) (40 * k) s n 10 - bsP (y.2.2 20) (y.2.2 23) (40 * k) s n 10)) else sfnd y 3)) 0 0 55 [some (.ref 1), some (.int (nI k)), some (.ref p), some (.int (nI s)), some (.int (nI i)), none] [] (mX o x)) s ?_ ?_ rfl
        · intro i hi ih hall
          have a1 := hf i hi
          refine gl_iload dX0_beside_55 rfl ?_
          refine gl_iload_n dX0_beside_57 rfl ?_
          refine gl_icmp_ge (tgt := 90) dX0_beside_58 (by decide) (fun h => absurd h (nI_ge hi (by omega))) (fun _ => ?_)
          refine gl_aload_n dX0_beside_61 rfl ?_
          refine gl_iload dX0_beside_62 rfl ?_
          refine gl_iald (j := i) dX0_beside_64 hO.lk rfl hi ?_
          rw [a1]
          refine gl_istore dX0_beside_65 rfl rfl ?_
          refine gl_iload dX0_beside_67 rfl ?_
          refine gl_iconst (v := nI 0) dX0_beside_69 (by decide) ?_
          refine gl_bipush (v := nI 59) dX0_beside_70 (by decide) ?_
          refine gl_callS (x_isIn L _ _ _ _) dX0_beside_72 q298 q299 q74 q300 rfl hX0_isIn rfl rfl (rmOk (by omega) rfl) ⟨by first | exact Nat.le_refl _ | exact Nat.zero_le _ | decide | (dsimp only [rm]; omega), by first | exact Nat.le_refl _ | exact Nat.zero_le _ | decide | (dsimp only [rm]; omega)⟩ (rt1 ?_)
          refine gl_if_ne (tgt := 84) dX0_beside_75 (by decide) (fun h75 => ?_) (fun h75 => ?_)
          · have hz := bI_tr h75
            refine gl_iinc (v := (nI (i + 1))) dX0_beside_84 rfl (nI_1 _) rfl rfl ?_
            refine gl_goto (tgt := 55) dX0_beside_87 (by decide) ?_
            refine gl_drop 5 (ih ?_)
            unfold allI
            rw [hall]
            exact hz
          · have hz := bI_fa h75
            have hno : allI (y.2.2 20) (40 * k) s = false := allI_f (k := i + 1) (by omega) (by unfold allI; rw [hall]; exact hz)
            rw [if_neg (by rw [hno]; decide)]
            refine gl_aload_n dX0_beside_78 rfl ?_
            refine gl_iconst (v := nI 3) dX0_beside_79 (by decide) ?_
            refine gl_callV (x_found L o x 3 (by omega)) dX0_beside_80 q301 q303 qs2 q74 q304 rfl hX0_found rfl (rfl : vwCl[0]? = some (RX0, TX0, 30)) rfl rfl (rmOk (by omega) rfl) ⟨by first | exact Nat.le_refl _ | exact Nat.zero_le _ | decide | (dsimp only [rm]; omega), by first | exact Nat.le_refl _ | exact Nat.zero_le _ | decide | (dsimp only [rm]; omega)⟩ (rt1 ?_)
            exact gl_iret dX0_beside_83 rfl (XR.ofnd 3 (by omega) hV) (hc := by first | exact Nat.zero_le _ | (dsimp only [rm]; omega)) (hs := by first | exact Nat.zero_le _ | (dsimp only [rm]; omega))
        · intro hall
          rw [if_pos hall]
          have hz : ∀ i, i < s → ∃ z, z ≤ 59 ∧ y.2.2 20 (40 * k + i) = nI z := fun i hi => by
            obtain ⟨z, -, hz, ez⟩ := inR_nat (a := 0) (b := 59) (by omega) (by omega) (allI_t hall i hi)
            exact ⟨z, hz, ez⟩
          rw [← pw_t (f := f) hV.lb hf hz, ← pw_f (w := y.2.2 23) (f := f) hf]
          refine gl_iload dX0_beside_55 rfl ?_
          refine gl_iload_n dX0_beside_57 rfl ?_
          refine gl_icmp_ge (tgt := 90) dX0_beside_58 (by decide) (fun _ => ?_) (fun h => absurd (nI_le (Nat.le_refl _) (by omega)) h)
          refine gl_aload_n dX0_beside_90 rfl ?_
          refine gl_aload_n dX0_beside_91 rfl ?_
          refine gl_get (k := 5) dX0_beside_92 rfl (rfl : vwCl[0]? = some (RX0, TX0, 30)) in_X0 (by decide) q117 rfl ?_
          refine gl_iload_n dX0_beside_95 rfl ?_
          refine gl_aald (j := k) dX0_beside_96 rfl rfl (by omega) e ?_
          refine gl_iconst (v := nI 1) dX0_beside_97 (by decide) ?_
          refine gl_callV (x_pairsWith L hV.rl hV.lb hO hs true) dX0_beside_98 q916 q918 qs34 q74 q919 rfl hX0_pairsWith rfl (rfl : vwCl[0]? = some (RX0, TX0, 30)) rfl rfl (rmOk (by omega) rfl) ⟨by first | exact Nat.le_refl _ | exact Nat.zero_le _ | decide | (dsimp only [rm]; omega), by first | exact Nat.le_refl _ | exact Nat.zero_le _ | decide | (dsimp only [rm]; omega)⟩ (rt1 ?_)
          refine gl_istore_n dX0_beside_101 rfl rfl ?_
          refine gl_aload_n dX0_beside_102 rfl ?_
          refine gl_aload_n dX0_beside_103 rfl ?_
          refine gl_aload_n dX0_beside_104 rfl ?_
          refine gl_get (k := 5) dX0_beside_105 rfl (rfl : vwCl[0]? = some (RX0, TX0, 30)) in_X0 (by decide) q117 rfl ?_
          refine gl_iload_n dX0_beside_108 rfl ?_
          refine gl_aald (j := k) dX0_beside_109 rfl rfl (by omega) e ?_
          refine gl_iconst (v := nI 0) dX0_beside_110 (by decide) ?_
          refine gl_callV (x_pairsWith L hV.rl hV.lb hO hs false) dX0_beside_111 q916 q918 qs34 q74 q919 rfl hX0_pairsWith rfl (rfl : vwCl[0]? = some (RX0, TX0, 30)) rfl rfl (rmOk (by omega) rfl) ⟨by first | exact Nat.le_refl _ | exact Nat.zero_le _ | decide | (dsimp only [rm]; omega), by first | exact Nat.le_refl _ | exact Nat.zero_le _ | decide | (dsimp only [rm]; omega)⟩ (rt1 ?_)
          refine gl_iload_n dX0_beside_114 rfl ?_
          refine gl_isub dX0_beside_115 ?_
          refine gl_iload_n dX0_beside_116 rfl ?_
          refine gl_callV (x_ask L o x _ _) dX0_beside_117 q357 q359 qs3 q74 q360 rfl hX0_ask rfl (rfl : vwCl[0]? = some (RX0, TX0, 30)) rfl rfl (rmOk (by omega) rfl) ⟨by first | exact Nat.le_refl _ | exact Nat.zero_le _ | decide | (dsimp only [rm]; omega), by first | exact Nat.le_refl _ | exact Nat.zero_le _ | decide | (dsimp only [rm]; omega)⟩ (rt1 ?_)
          exact gl_iret dX0_beside_120 rfl ⟨rfl, o, _, τ, n, m, t, rfl, ⟨rfl, rfl⟩, hV.ask _⟩ (hc := by first | exact Nat.zero_le _ | (dsimp only [rm]; omega)) (hs := by first | exact Nat.zero_le _ | (dsimp only [rm]; omega))
      · rw [if_pos (k2_lt h33)]
        refine gl_aload_n dX0_beside_36 rfl ?_
        refine gl_iconst (v := nI 5) dX0_beside_37 (by decide) ?_
        refine gl_callV (x_found L o x 5 (by omega)) dX0_beside_38 q301 q303 qs2 q74 q304 rfl hX0_found rfl (rfl : vwCl[0]? = some (RX0, TX0, 30)) rfl rfl (rmOk (by omega) rfl) ⟨by first | exact Nat.le_refl _ | exact Nat.zero_le _ | decide | (dsimp only [rm]; omega), by first | exact Nat.le_refl _ | exact Nat.zero_le _ | decide | (dsimp only [rm]; omega)⟩ (rt1 ?_)
        exact gl_iret dX0_beside_41 rfl (XR.ofnd 5 (by omega) hV) (hc := by first | exact Nat.zero_le _ | (dsimp only [rm]; omega)) (hs := by first | exact Nat.zero_le _ | (dsimp only [rm]; omega))
  · rw [if_neg (by simp [bI_fa h4])]
    refine gl_iconst (v := (-1)) dX0_beside_7 (by decide) ?_
    exact gl_iret dX0_beside_8 rfl (XR.same hV) (hc := by first | exact Nat.zero_le _ | (dsimp only [rm]; omega)) (hs := by first | exact Nat.zero_le _ | (dsimp only [rm]; omega))
end XBs

