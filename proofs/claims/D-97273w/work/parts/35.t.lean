/-! test, odds: the model -/
set_option maxRecDepth 100000
theorem nI_div {a b : Nat} (ha : a < 2 ^ 31) (hb : b < 2 ^ 31) : nI a / nI b = nI (a / b) := by
  apply Int32.toInt_inj.mp
  have h2 : a / b ≤ a := Nat.div_le_self a b
  rw [Int32.toInt_div, nI_toInt ha, nI_toInt hb, nI_toInt (show a / b < 2 ^ 31 by omega), ← Int.ofNat_tdiv]
  generalize a / b = z at h2
  rw [Int.bmod_eq_of_le (by omega) (by omega)]
theorem nI_rem {a b : Nat} (ha : a < 2 ^ 31) (hb : b < 2 ^ 31) : nI a % nI b = nI (a % b) := by
  apply Int32.toInt_inj.mp
  have h2 : a % b ≤ a := Nat.mod_le a b
  rw [Int32.toInt_mod, nI_toInt ha, nI_toInt hb, nI_toInt (show a % b < 2 ^ 31 by omega), ← Int.ofNat_tmod]
section MG
variable (L : Nat) (o : OY) (y : MY) {n m t : Nat}
def woI (Q : QS) (k : Nat) : Int32 := if Q.2.1 < nI 2 * Q.2.2.1 k then Q.2.2.1 k else Q.2.1 - Q.2.2.1 k
def tsS (Q : QS) : Nat → Int32 × Int32
  | 0 => (-9, nI 0)
  | k + 1 => if 0 < Q.2.2.1 k ∧ Q.2.2.1 k < Q.2.1 ∧ ((tsS Q k).1 = -9 ∨ woI Q k < (tsS Q k).2) then (nI (10 * (k / 7) + k % 7), woI Q k) else tsS Q k
def sp_test (y : MY) (n m : Nat) : Int32 × ((Nat → Int32) → MY) := ((tsS (layQ y n m false) 49).1, fun A => if (tsS (layQ y n m false) 49).1 = -9 then mqS y A (layQ y n m false) else sI (mqS y A (layQ y n m false)) 7 (tsS (layQ y n m false) 49).2)
theorem m_test (hL : Lb (y.2.2 23) n m t) : Ct yX1_test gX1_test (L + 15) 0 0 [.ref 18] (mM o y) (RtJ o (sp_test y n m)) := by
  refine Ct.of rfl rfl rfl rfl rfl ?_
  refine gl_aload_n dX1_test_0 rfl ?_
  refine gl_iconst (v := nI 0) dX1_test_1 (by decide) ?_
  refine gl_callV (m_layM L o y hL false) dX1_test_2 q1285 q1287 qs64 q75 q1288 rfl hX1_layMatchings rfl (rfl : vwCl[1]? = some (RX1, TX1, 21)) rfl rfl (rmOk (by omega) rfl) ⟨by first | exact Nat.le_refl _ | exact Nat.zero_le _ | decide | (dsimp only [rm]; omega), by first | exact Nat.le_refl _ | exact Nat.zero_le _ | decide | (dsimp only [rm]; omega)⟩ ?_
  rintro _ _ ⟨rfl, A, rfl⟩
  unfold sp_test
  generalize layQ y n m false = Q
  refine gl_bipush (v := (-9)) dX1_test_5 (by decide) ?_
  refine gl_istore_n dX1_test_7 rfl rfl ?_
  refine gl_iconst (v := nI 0) dX1_test_8 (by decide) ?_
  refine gl_istore_n dX1_test_9 rfl rfl ?_
  refine gl_iconst (v := nI 0) dX1_test_10 (by decide) ?_
  refine gl_istore_n dX1_test_11 rfl rfl ?_
  refine gl_loop (fun k => [some (.ref 18), some (.int (tsS Q k).1), some (.int (tsS Q k).2), some (.int (nI k)), none]) (fun _ => mM o (mqS y A Q)) 49 ?_ ?_
  · intro k hk ih
    refine gl_iload_n dX1_test_12 rfl ?_
    refine gl_bipush (v := nI 49) dX1_test_13 (by decide) ?_
    refine gl_icmp_ge (tgt := 111) dX1_test_15 (by decide) (fun h => absurd h (nI_ge hk (by omega))) (fun _ => ?_)
    have t1 : GL gX1_test (rm (L + 15) 0 0) (RtJ o ((tsS Q 49).1, fun A => if (tsS Q 49).1 = -9 then mqS y A Q else sI (mqS y A Q) 7 (tsS Q 49).2)) 0 0 53 [some (.ref 18), some (.int (tsS Q k).1), some (.int (tsS Q k).2), some (.int (nI k)), none] [.int (woI Q k)] (mM o (mqS y A Q)) := by
      refine gl_istore dX1_test_53 rfl rfl ?_
      refine gl_aload_n dX1_test_55 rfl ?_
      refine gl_get (k := 16) dX1_test_56 rfl (rfl : vwCl[1]? = some (RX1, TX1, 21)) in_X1 (by decide) q1036 rfl ?_
      refine gl_iload_n dX1_test_59 rfl ?_
      refine gl_iald (j := k) dX1_test_60 rfl rfl (by omega) ?_
      refine gl_if_le (tgt := 105) dX1_test_61 (by decide) (fun h61 => ?_) (fun h61 => ?_)
      · have z : ¬ 0 < Q.2.2.1 k := k2_nlt h61
        refine gl_iinc (v := (nI (k + 1))) dX1_test_105 rfl (nI_1 _) rfl rfl ?_
        refine gl_goto (tgt := 12) dX1_test_108 (by decide) ?_
        refine gl_drop 4 (gl_lcs ?_ ih)
        simp only [tsS]
        rw [if_neg (fun q => z q.1)]
        rfl
      · have z : 0 < Q.2.2.1 k := k2_lt h61
        refine gl_aload_n dX1_test_64 rfl ?_
        refine gl_get (k := 16) dX1_test_65 rfl (rfl : vwCl[1]? = some (RX1, TX1, 21)) in_X1 (by decide) q1036 rfl ?_
        refine gl_iload_n dX1_test_68 rfl ?_
        refine gl_iald (j := k) dX1_test_69 rfl rfl (by omega) ?_
        refine gl_aload_n dX1_test_70 rfl ?_
        refine gl_get (k := 17) dX1_test_71 rfl (rfl : vwCl[1]? = some (RX1, TX1, 21)) in_X1 (by decide) q1037 rfl ?_
        refine gl_icmp_ge (tgt := 105) dX1_test_74 (by decide) (fun h74 => ?_) (fun h74 => ?_)
        · have z2 : ¬ Q.2.2.1 k < Q.2.1 := k2_nlt h74
          refine gl_iinc (v := (nI (k + 1))) dX1_test_105 rfl (nI_1 _) rfl rfl ?_
          refine gl_goto (tgt := 12) dX1_test_108 (by decide) ?_
          refine gl_drop 4 (gl_lcs ?_ ih)
          simp only [tsS]
          rw [if_neg (fun q => z2 q.2.1)]
          rfl
        · have z2 : Q.2.2.1 k < Q.2.1 := k2_lt h74
          have t2 : (tsS Q k).1 = -9 ∨ woI Q k < (tsS Q k).2 → GL gX1_test (rm (L + 15) 0 0) (RtJ o ((tsS Q 49).1, fun A => if (tsS Q 49).1 = -9 then mqS y A Q else sI (mqS y A Q) 7 (tsS Q 49).2)) 0 0 89 [some (.ref 18), some (.int (tsS Q k).1), some (.int (tsS Q k).2), some (.int (nI k)), some (.int (woI Q k))] [] (mM o (mqS y A Q)) := by
            intro hor
            refine gl_bipush (v := nI 10) dX1_test_89 (by decide) ?_
            refine gl_iload_n dX1_test_91 rfl ?_
            refine gl_bipush (v := nI 7) dX1_test_92 (by decide) ?_
            refine gl_idiv dX1_test_94 (by decide) ?_
            refine gl_imul dX1_test_95 ?_
            refine gl_iload_n dX1_test_96 rfl ?_
            refine gl_bipush (v := nI 7) dX1_test_97 (by decide) ?_
            refine gl_irem dX1_test_99 (by decide) ?_
            refine gl_iadd dX1_test_100 ?_
            refine gl_top (w := .int (nI (10 * (k / 7) + k % 7))) (by rw [nI_div (by omega) (by omega), nI_rem (by omega) (by omega), nI_mul, nI_add]) ?_
            refine gl_istore_n dX1_test_101 rfl rfl ?_
            refine gl_iload dX1_test_102 rfl ?_
            refine gl_istore_n dX1_test_104 rfl rfl ?_
            refine gl_iinc (v := (nI (k + 1))) dX1_test_105 rfl (nI_1 _) rfl rfl ?_
            refine gl_goto (tgt := 12) dX1_test_108 (by decide) ?_
            refine gl_drop 4 (gl_lcs ?_ ih)
            simp only [tsS]
            rw [if_pos ⟨z, z2, hor⟩]
            rfl
          refine gl_iload_n dX1_test_77 rfl ?_
          refine gl_bipush (v := (-9)) dX1_test_78 (by decide) ?_
          refine gl_icmp_eq (tgt := 89) dX1_test_80 (by decide) (fun h80 => ?_) (fun h80 => ?_)
          · exact t2 (Or.inl h80)
          · refine gl_iload dX1_test_83 rfl ?_
            refine gl_iload_n dX1_test_85 rfl ?_
            refine gl_icmp_ge (tgt := 105) dX1_test_86 (by decide) (fun h86 => ?_) (fun h86 => ?_)
            · have z3 : ¬ woI Q k < (tsS Q k).2 := k2_nlt h86
              refine gl_iinc (v := (nI (k + 1))) dX1_test_105 rfl (nI_1 _) rfl rfl ?_
              refine gl_goto (tgt := 12) dX1_test_108 (by decide) ?_
              refine gl_drop 4 (gl_lcs ?_ ih)
              simp only [tsS]
              rw [if_neg (fun q => by rcases q.2.2 with q | q; exact h80 q; exact z3 q)]
              rfl
            · exact t2 (Or.inr (k2_lt h86))
    refine gl_iconst (v := nI 2) dX1_test_18 (by decide) ?_
    refine gl_aload_n dX1_test_19 rfl ?_
    refine gl_get (k := 16) dX1_test_20 rfl (rfl : vwCl[1]? = some (RX1, TX1, 21)) in_X1 (by decide) q1036 rfl ?_
    refine gl_iload_n dX1_test_23 rfl ?_
    refine gl_iald (j := k) dX1_test_24 rfl rfl (by omega) ?_
    refine gl_imul dX1_test_25 ?_
    refine gl_aload_n dX1_test_26 rfl ?_
    refine gl_get (k := 17) dX1_test_27 rfl (rfl : vwCl[1]? = some (RX1, TX1, 21)) in_X1 (by decide) q1037 rfl ?_
    refine gl_icmp_le (tgt := 42) dX1_test_30 (by decide) (fun h30 => ?_) (fun h30 => ?_)
    · refine gl_aload_n dX1_test_42 rfl ?_
      refine gl_get (k := 17) dX1_test_43 rfl (rfl : vwCl[1]? = some (RX1, TX1, 21)) in_X1 (by decide) q1037 rfl ?_
      refine gl_aload_n dX1_test_46 rfl ?_
      refine gl_get (k := 16) dX1_test_47 rfl (rfl : vwCl[1]? = some (RX1, TX1, 21)) in_X1 (by decide) q1036 rfl ?_
      refine gl_iload_n dX1_test_50 rfl ?_
      refine gl_iald (j := k) dX1_test_51 rfl rfl (by omega) ?_
      refine gl_isub dX1_test_52 ?_
      refine gl_top (w := .int (woI Q k)) (by unfold woI; rw [if_neg (show ¬ Q.2.1 < nI 2 * Q.2.2.1 k from k2_nlt h30)]; rfl) ?_
      exact t1
    · refine gl_aload_n dX1_test_33 rfl ?_
      refine gl_get (k := 16) dX1_test_34 rfl (rfl : vwCl[1]? = some (RX1, TX1, 21)) in_X1 (by decide) q1036 rfl ?_
      refine gl_iload_n dX1_test_37 rfl ?_
      refine gl_iald (j := k) dX1_test_38 rfl rfl (by omega) ?_
      refine gl_goto (tgt := 53) dX1_test_39 (by decide) ?_
      refine gl_top (w := .int (woI Q k)) (by unfold woI; rw [if_pos (show Q.2.1 < nI 2 * Q.2.2.1 k from k2_lt h30)]; rfl) ?_
      exact t1
  · refine gl_iload_n dX1_test_12 rfl ?_
    refine gl_bipush (v := nI 49) dX1_test_13 (by decide) ?_
    refine gl_icmp_ge (tgt := 111) dX1_test_15 (by decide) (fun _ => ?_) (fun h => absurd (nI_le (Nat.le_refl _) (by omega)) h)
    refine gl_iload_n dX1_test_111 rfl ?_
    refine gl_bipush (v := (-9)) dX1_test_112 (by decide) ?_
    refine gl_icmp_ne (tgt := 121) dX1_test_114 (by decide) (fun h114 => ?_) (fun h114 => ?_)
    · refine gl_aload_n dX1_test_121 rfl ?_
      refine gl_iload_n dX1_test_122 rfl ?_
      refine gl_callV (m_tell L o (mqS y A Q) _) dX1_test_123 q1104 q1106 qs45 q75 q1107 rfl hX1_tell rfl (rfl : vwCl[1]? = some (RX1, TX1, 21)) rfl rfl (rmOk (by omega) rfl) ⟨by first | exact Nat.le_refl _ | exact Nat.zero_le _ | decide | (dsimp only [rm]; omega), by first | exact Nat.le_refl _ | exact Nat.zero_le _ | decide | (dsimp only [rm]; omega)⟩ (rt1 ?_)
      refine gl_istore_n dX1_test_126 rfl rfl ?_
      refine gl_iload_n dX1_test_127 rfl ?_
      exact gl_iret dX1_test_128 rfl ⟨A, rfl, by dsimp only; rw [if_neg h114]⟩
    · refine gl_iconst (v := nI 0) dX1_test_117 (by decide) ?_
      refine gl_goto (tgt := 126) dX1_test_118 (by decide) ?_
      refine gl_istore_n dX1_test_126 rfl rfl ?_
      refine gl_iload_n dX1_test_127 rfl ?_
      exact gl_iret dX1_test_128 rfl ⟨A, rfl, by dsimp only; rw [if_pos h114]⟩
def gcdI : Nat → Int32 → Int32 → Int32
  | 0, x, _ => x
  | f + 1, x, z => if z = 0 then x else gcdI f z (x % z)
theorem i_abs {z : Int32} (h : z.toInt.natAbs = 0) : z = 0 := by
  apply Int32.toInt_inj.mp
  have e : (0 : Int32).toInt = 0 := rfl
  omega
theorem i_rem {x z : Int32} (h : ¬ z = 0) : (x % z).toInt.natAbs < z.toInt.natAbs := by
  rw [Int32.toInt_mod]
  have h0 : z.toInt ≠ 0 := fun q => h (i_abs (by omega))
  rw [Int.natAbs_tmod]
  exact Nat.mod_lt _ (by omega)
theorem gcd_ne : ∀ (f : Nat) (x z : Int32), z.toInt.natAbs ≤ f → (¬ x = 0 ∨ ¬ z = 0) → ¬ gcdI f x z = 0 := by
  intro f
  induction f with
  | zero =>
    intro x z hz h
    have := i_abs (z := z) (by omega)
    rcases h with h | h
    · exact h
    · exact absurd this h
  | succ f ih =>
    intro x z hz h
    unfold gcdI
    by_cases e : z = 0
    · rw [if_pos e]
      rcases h with h | h
      · exact h
      · exact absurd e h
    · rw [if_neg e]
      have := i_rem (x := x) e
      exact ih z (x % z) (by omega) (Or.inl e)
def gcI (x z : Int32) : Int32 := gcdI z.toInt.natAbs x z
def sp_odds (y : MY) (n m : Nat) (q c : Int32) : Int32 × ((Nat → Int32) → MY) := if inR q 0 (y.2.2 23 1 - 1) && inR c 0 (y.2.2 23 0 - 1) then (nI 1, fun A => sJ (sJ (mqS y A (layQ y n m false)) 8 ((layQ y n m false).2.2.1 (7 * ix q + ix c) / gcI ((layQ y n m false).2.2.1 (7 * ix q + ix c)) (layQ y n m false).2.1).toInt64) 9 ((layQ y n m false).2.1 / gcI ((layQ y n m false).2.2.1 (7 * ix q + ix c)) (layQ y n m false).2.1).toInt64) else (-1, fun _ => y)
theorem m_odds (hL : Lb (y.2.2 23) n m t) (hne : ¬ (layQ y n m false).2.1 = 0) (q c : Int32) : Ct yX1_odds gX1_odds (L + 15) 0 0 [.ref 18, .int q, .int c] (mM o y) (RtJ o (sp_odds y n m q c)) := by
  refine Ct.of rfl rfl rfl rfl rfl ?_
  have h7 := hL.c7
  have h7q := hL.q7
  refine gl_aload_n dX1_odds_0 rfl ?_
  refine gl_iload_n dX1_odds_1 rfl ?_
  refine gl_callV (m_isQuestion L o y _) dX1_odds_2 q1196 q1198 qs55 q75 q1199 rfl hX1_isQuestion rfl (rfl : vwCl[1]? = some (RX1, TX1, 21)) rfl rfl (rmOk (by omega) rfl) ⟨by first | exact Nat.le_refl _ | exact Nat.zero_le _ | decide | (dsimp only [rm]; omega), by first | exact Nat.le_refl _ | exact Nat.zero_le _ | decide | (dsimp only [rm]; omega)⟩ (rt1 ?_)
  refine gl_if_eq (tgt := 16) dX1_odds_5 (by decide) (fun h5 => ?_) (fun h5 => ?_)
  · unfold sp_odds
    rw [if_neg (by simp [bI_fa h5])]
    refine gl_iconst (v := (-1)) dX1_odds_16 (by decide) ?_
    exact gl_iret dX1_odds_17 rfl ⟨y.2.2 28, rfl, rfl⟩
  · have hq := bI_tr h5
    refine gl_aload_n dX1_odds_8 rfl ?_
    refine gl_iload_n dX1_odds_9 rfl ?_
    refine gl_callV (m_isCard L o y _) dX1_odds_10 q1176 q1178 qs51 q75 q1179 rfl hX1_isCard rfl (rfl : vwCl[1]? = some (RX1, TX1, 21)) rfl rfl (rmOk (by omega) rfl) ⟨by first | exact Nat.le_refl _ | exact Nat.zero_le _ | decide | (dsimp only [rm]; omega), by first | exact Nat.le_refl _ | exact Nat.zero_le _ | decide | (dsimp only [rm]; omega)⟩ (rt1 ?_)
    refine gl_if_ne (tgt := 18) dX1_odds_13 (by decide) (fun h13 => ?_) (fun h13 => ?_)
    · have hc := bI_tr h13
      unfold sp_odds
      rw [if_pos (by rw [hq, hc]; rfl)]
      rw [hL.q] at hq
      rw [hL.c] at hc
      obtain ⟨q, hq, rfl⟩ := inR_n (by omega) hq
      obtain ⟨c, hc, rfl⟩ := inR_n (by omega) hc
      rw [ix_nI (show q < 100 by omega), ix_nI (show c < 100 by omega)]
      refine gl_aload_n dX1_odds_18 rfl ?_
      refine gl_iconst (v := nI 0) dX1_odds_19 (by decide) ?_
      refine gl_callV (m_layM L o y hL false) dX1_odds_20 q1285 q1287 qs64 q75 q1288 rfl hX1_layMatchings rfl (rfl : vwCl[1]? = some (RX1, TX1, 21)) rfl rfl (rmOk (by omega) rfl) ⟨by first | exact Nat.le_refl _ | exact Nat.zero_le _ | decide | (dsimp only [rm]; omega), by first | exact Nat.le_refl _ | exact Nat.zero_le _ | decide | (dsimp only [rm]; omega)⟩ ?_
      rintro _ _ ⟨rfl, A, rfl⟩
      generalize layQ y n m false = Q at hne ⊢
      refine gl_aload_n dX1_odds_23 rfl ?_
      refine gl_get (k := 16) dX1_odds_24 rfl (rfl : vwCl[1]? = some (RX1, TX1, 21)) in_X1 (by decide) q1036 rfl ?_
      refine gl_bipush (v := nI 7) dX1_odds_27 (by decide) ?_
      refine gl_iload_n dX1_odds_29 rfl ?_
      refine gl_imul dX1_odds_30 ?_
      refine gl_iload_n dX1_odds_31 rfl ?_
      refine gl_iadd dX1_odds_32 ?_
      refine gl_iald (j := ((7 * q) + c)) dX1_odds_33 rfl (by simp only [nI_add, nI_mul]) (by omega) ?_
      refine gl_istore_n dX1_odds_34 rfl rfl ?_
      refine gl_aload_n dX1_odds_35 rfl ?_
      refine gl_get (k := 17) dX1_odds_36 rfl (rfl : vwCl[1]? = some (RX1, TX1, 21)) in_X1 (by decide) q1037 rfl ?_
      refine gl_istore dX1_odds_39 rfl rfl ?_
      have key : ∀ (f : Nat) (x z : Int32), z.toInt.natAbs ≤ f → (∀ g, g = gcdI f x z → GL gX1_odds (rm (L + 15) 0 0) (RtJ o (nI 1, fun A => sJ (sJ (mqS y A Q) 8 (Q.2.2.1 (7 * q + c) / gcI (Q.2.2.1 (7 * q + c)) Q.2.1).toInt64) 9 (Q.2.1 / gcI (Q.2.2.1 (7 * q + c)) Q.2.1).toInt64)) 0 0 62 [some (.ref 18), some (.int (nI q)), some (.int (nI c)), some (.int g), none, none] [] (mM o (mqS y A Q))) → GL gX1_odds (rm (L + 15) 0 0) (RtJ o (nI 1, fun A => sJ (sJ (mqS y A Q) 8 (Q.2.2.1 (7 * q + c) / gcI (Q.2.2.1 (7 * q + c)) Q.2.1).toInt64) 9 (Q.2.1 / gcI (Q.2.2.1 (7 * q + c)) Q.2.1).toInt64)) 0 0 41 [some (.ref 18), some (.int (nI q)), some (.int (nI c)), some (.int x), some (.int z), none] [] (mM o (mqS y A Q)) := by
        intro f
        induction f with
        | zero =>
          intro x z hz k
          refine gl_iload dX1_odds_41 rfl ?_
          refine gl_if_eq (tgt := 62) dX1_odds_43 (by decide) (fun _ => ?_) (fun h => absurd (i_abs (by omega)) h)
          refine gl_drop 4 ?_
          exact k x rfl
        | succ f ih =>
          intro x z hz k
          unfold gcdI at k
          refine gl_iload dX1_odds_41 rfl ?_
          refine gl_if_eq (tgt := 62) dX1_odds_43 (by decide) (fun h43 => ?_) (fun h43 => ?_)
          · rw [if_pos h43] at k
            refine gl_drop 4 ?_
            exact k x rfl
          · rw [if_neg h43] at k
            refine gl_iload_n dX1_odds_46 rfl ?_
            refine gl_iload dX1_odds_47 rfl ?_
            refine gl_irem dX1_odds_49 h43 ?_
            refine gl_istore dX1_odds_50 rfl rfl ?_
            refine gl_iload dX1_odds_52 rfl ?_
            refine gl_istore_n dX1_odds_54 rfl rfl ?_
            refine gl_iload dX1_odds_55 rfl ?_
            refine gl_istore dX1_odds_57 rfl rfl ?_
            refine gl_goto (tgt := 41) dX1_odds_59 (by decide) ?_
            refine gl_drop 5 ?_
            have := i_rem (x := x) h43
            exact ih z (x % z) (by omega) k
      refine key Q.2.1.toInt.natAbs _ _ (Nat.le_refl _) ?_
      intro g hg
      have hg' : g = gcI (Q.2.2.1 (7 * q + c)) Q.2.1 := hg
      rw [← hg']
      have hn0 : ¬ g = 0 := by rw [hg]; exact gcd_ne _ _ _ (Nat.le_refl _) (Or.inr hne)
      refine gl_aload_n dX1_odds_62 rfl ?_
      refine gl_aload_n dX1_odds_63 rfl ?_
      refine gl_get (k := 16) dX1_odds_64 rfl (rfl : vwCl[1]? = some (RX1, TX1, 21)) in_X1 (by decide) q1036 rfl ?_
      refine gl_bipush (v := nI 7) dX1_odds_67 (by decide) ?_
      refine gl_iload_n dX1_odds_69 rfl ?_
      refine gl_imul dX1_odds_70 ?_
      refine gl_iload_n dX1_odds_71 rfl ?_
      refine gl_iadd dX1_odds_72 ?_
      refine gl_iald (j := ((7 * q) + c)) dX1_odds_73 rfl (by simp only [nI_add, nI_mul]) (by omega) ?_
      refine gl_iload_n dX1_odds_74 rfl ?_
      refine gl_idiv dX1_odds_75 hn0 ?_
      refine gl_i2l dX1_odds_76 ?_
      refine gl_put (k := 8) dX1_odds_77 rfl (rfl : vwCl[1]? = some (RX1, TX1, 21)) in_X1 tyX1 tyX1_ok nmX1 (by decide) rfl q1028 (fun _ _ => ⟨rfl, rfl⟩) rfl ?_
      refine gl_aload_n dX1_odds_80 rfl ?_
      refine gl_aload_n dX1_odds_81 rfl ?_
      refine gl_get (k := 17) dX1_odds_82 rfl (rfl : vwCl[1]? = some (RX1, TX1, 21)) in_X1 (by decide) q1037 rfl ?_
      refine gl_iload_n dX1_odds_85 rfl ?_
      refine gl_idiv dX1_odds_86 hn0 ?_
      refine gl_i2l dX1_odds_87 ?_
      refine gl_put (k := 9) dX1_odds_88 rfl (rfl : vwCl[1]? = some (RX1, TX1, 21)) in_X1 tyX1 tyX1_ok nmX1 (by decide) rfl q1029 (fun _ _ => ⟨rfl, rfl⟩) rfl ?_
      refine gl_iconst (v := nI 1) dX1_odds_91 (by decide) ?_
      exact gl_iret dX1_odds_92 rfl ⟨A, rfl, rfl⟩
    · unfold sp_odds
      rw [if_neg (by simp [bI_fa h13])]
      refine gl_iconst (v := (-1)) dX1_odds_16 (by decide) ?_
      exact gl_iret dX1_odds_17 rfl ⟨y.2.2 28, rfl, rfl⟩
end MG

