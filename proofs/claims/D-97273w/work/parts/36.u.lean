/-! left, parts, order: the model -/
set_option maxRecDepth 100000
section MH
variable (L : Nat) (o : OY) (y : MY) {n m t : Nat}
def fsI (w : Nat → Int32) (n q : Nat) : Int32 := orI (fun c => fitB w q c) n
/-- the set left from pair k on, f pairs; none: a pair isn't a question and an answer -/
def lfF (w g : Nat → Int32) (n : Nat) : Nat → Nat → Int32 → Option Int32
  | 0, _, set => some set
  | f + 1, k, set => if inR (g (2 * k)) 0 (w 1 - 1) && inR (g (2 * k + 1)) 0 1 then lfF w g n f (k + 1) (set &&& (if g (2 * k + 1) = nI 1 then fsI w n (ix (g (2 * k))) else fsI w n (ix (g (2 * k))) ^^^ (-1))) else none
def lfO (y : MY) (r : Option Int32) : Int32 × MY := match r with
  | some v => (v, y)
  | none => sfnd y 3
def allC (n : Nat) : Int32 := nI 1 <<< (nI n &&& 31) - nI 1
def rwF (y : MY) (k : Nat) : Nat → Int32 := fun i => y.2.2 20 (40 * k + i)
def sp_left (y : MY) (n : Nat) (r : Int32) : Int32 × MY := if inR r 0 5 then (if y.2.2 19 (ix r) < 0 then sfnd y 1 else if ix (y.2.2 19 (ix r)) % 2 = 1 then sfnd y 5 else lfO y (lfF (y.2.2 23) (rwF y (ix r)) n (ix (y.2.2 19 (ix r)) / 2) 0 (allC n))) else (-1, y)
theorem m_left (hL : Lb (y.2.2 23) n m t) (hS : szs (y.2.2 19) 6 40) (r : Int32) : Ct yX1_left gX1_left (L + 14) 0 0 [.ref 18, .int r] (mM o y) (RtP o (sp_left y n r)) := by
  refine Ct.of rfl rfl rfl rfl rfl ?_
  have h7 := hL.c7
  have h7q := hL.q7
  refine gl_iload_n dX1_left_0 rfl ?_
  refine gl_callS (m_isRow L _ _) dX1_left_1 q1089 q1090 q75 q1091 rfl hX1_isRow rfl rfl (rmOk (by omega) rfl) ⟨by first | exact Nat.le_refl _ | exact Nat.zero_le _ | decide | (dsimp only [rm]; omega), by first | exact Nat.le_refl _ | exact Nat.zero_le _ | decide | (dsimp only [rm]; omega)⟩ (rt1 ?_)
  refine gl_if_ne (tgt := 9) dX1_left_4 (by decide) (fun h4 => ?_) (fun h4 => ?_)
  · have hr := bI_tr h4
    obtain ⟨k, -, hk, rfl⟩ := inR_nat (a := 0) (b := 5) (by omega) (by omega) hr
    unfold sp_left
    rw [if_pos hr, ix_nI (show k < 100 by omega)]
    refine gl_aload_n dX1_left_9 rfl ?_
    refine gl_get (k := 0) dX1_left_10 rfl (rfl : vwCl[1]? = some (RX1, TX1, 21)) in_X1 (by decide) q1020 rfl ?_
    refine gl_iload_n dX1_left_13 rfl ?_
    refine gl_iald (j := k) dX1_left_14 rfl rfl (by omega) ?_
    refine gl_if_ge (tgt := 24) dX1_left_15 (by decide) (fun h15 => ?_) (fun h15 => ?_)
    · rw [if_neg (k2_nlt h15)]
      obtain ⟨s, hs, e⟩ := sz_lt (by omega) hS (show k < 6 by omega) (k2_nlt h15)
      rw [e, ix_nI (show s < 100 by omega)]
      refine gl_aload_n dX1_left_24 rfl ?_
      refine gl_get (k := 0) dX1_left_25 rfl (rfl : vwCl[1]? = some (RX1, TX1, 21)) in_X1 (by decide) q1020 rfl ?_
      refine gl_iload_n dX1_left_28 rfl ?_
      refine gl_iald (j := k) dX1_left_29 rfl rfl (by omega) ?_
      refine gl_iconst (v := nI 2) dX1_left_30 (by decide) ?_
      refine gl_irem dX1_left_31 (by decide) ?_
      refine gl_iconst (v := nI 1) dX1_left_32 (by decide) ?_
      refine gl_icmp_ne (tgt := 42) dX1_left_33 (by decide) (fun h33 => ?_) (fun h33 => ?_)
      · have hev : ¬ s % 2 = 1 := fun z => h33 (by rw [e, nI_rem (by omega) (by omega), z])
        rw [if_neg hev]
        refine gl_iconst (v := nI 1) dX1_left_42 (by decide) ?_
        refine gl_aload_n dX1_left_43 rfl ?_
        refine gl_get (k := 4) dX1_left_44 rfl (rfl : vwCl[1]? = some (RX1, TX1, 21)) in_X1 (by decide) q1024 rfl ?_
        refine gl_iconst (v := nI 0) dX1_left_47 (by decide) ?_
        refine gl_iald (j := 0) dX1_left_48 rfl rfl (by omega) ?_
        refine gl_ishl dX1_left_49 ?_
        refine gl_iconst (v := nI 1) dX1_left_50 (by decide) ?_
        refine gl_isub dX1_left_51 ?_
        refine gl_top (w := .int (allC n)) (by rw [hL.c]; rfl) ?_
        refine gl_istore_n dX1_left_52 rfl rfl ?_
        refine gl_iconst (v := nI 0) dX1_left_53 (by decide) ?_
        refine gl_istore_n dX1_left_54 rfl rfl ?_
        have key : ∀ (f i : Nat) (set : Int32), i + f = s / 2 → GL gX1_left (rm (L + 14) 0 0) (RtP o (lfO y (lfF (y.2.2 23) (rwF y k) n f i set))) 0 0 55 [some (.ref 18), some (.int (nI k)), some (.int set), some (.int (nI (2 * i))), none, none] [] (mM o y) := by
          intro f
          induction f with
          | zero =>
            intro i set hi
            refine gl_iload_n dX1_left_55 rfl ?_
            refine gl_aload_n dX1_left_56 rfl ?_
            refine gl_get (k := 0) dX1_left_57 rfl (rfl : vwCl[1]? = some (RX1, TX1, 21)) in_X1 (by decide) q1020 rfl ?_
            refine gl_iload_n dX1_left_60 rfl ?_
            refine gl_iald (j := k) dX1_left_61 rfl rfl (by omega) ?_
            refine gl_icmp_ge (tgt := 151) dX1_left_62 (by decide) (fun _ => ?_) (fun h => absurd ((by rw [e]; exact nI_le (by omega) (by omega))) h)
            refine gl_iload_n dX1_left_151 rfl ?_
            exact gl_iret dX1_left_152 rfl ⟨rfl, rfl⟩
          | succ f ih =>
            intro i set hi
            unfold lfF
            refine gl_iload_n dX1_left_55 rfl ?_
            refine gl_aload_n dX1_left_56 rfl ?_
            refine gl_get (k := 0) dX1_left_57 rfl (rfl : vwCl[1]? = some (RX1, TX1, 21)) in_X1 (by decide) q1020 rfl ?_
            refine gl_iload_n dX1_left_60 rfl ?_
            refine gl_iald (j := k) dX1_left_61 rfl rfl (by omega) ?_
            refine gl_icmp_ge (tgt := 151) dX1_left_62 (by decide) (fun h => absurd h ((by rw [e]; exact nI_ge (by omega) (by omega)))) (fun _ => ?_)
            refine gl_aload_n dX1_left_65 rfl ?_
            refine gl_get (k := 1) dX1_left_66 rfl (rfl : vwCl[1]? = some (RX1, TX1, 21)) in_X1 (by decide) q1021 rfl ?_
            refine gl_bipush (v := nI 40) dX1_left_69 (by decide) ?_
            refine gl_iload_n dX1_left_71 rfl ?_
            refine gl_imul dX1_left_72 ?_
            refine gl_iload_n dX1_left_73 rfl ?_
            refine gl_iadd dX1_left_74 ?_
            refine gl_iald (j := ((40 * k) + (2*i))) dX1_left_75 rfl (by simp only [nI_add, nI_mul]) (by omega) ?_
            refine gl_istore dX1_left_76 rfl rfl ?_
            refine gl_aload_n dX1_left_78 rfl ?_
            refine gl_get (k := 1) dX1_left_79 rfl (rfl : vwCl[1]? = some (RX1, TX1, 21)) in_X1 (by decide) q1021 rfl ?_
            refine gl_bipush (v := nI 40) dX1_left_82 (by decide) ?_
            refine gl_iload_n dX1_left_84 rfl ?_
            refine gl_imul dX1_left_85 ?_
            refine gl_iload_n dX1_left_86 rfl ?_
            refine gl_iadd dX1_left_87 ?_
            refine gl_iconst (v := nI 1) dX1_left_88 (by decide) ?_
            refine gl_iadd dX1_left_89 ?_
            refine gl_iald (j := (((40 * k) + (2*i)) + 1)) dX1_left_90 rfl (by simp only [nI_add, nI_mul]) (by omega) ?_
            refine gl_istore dX1_left_91 rfl rfl ?_
            refine gl_aload_n dX1_left_93 rfl ?_
            refine gl_iload dX1_left_94 rfl ?_
            refine gl_callV (m_isQuestion L o y _) dX1_left_96 q1196 q1198 qs55 q75 q1199 rfl hX1_isQuestion rfl (rfl : vwCl[1]? = some (RX1, TX1, 21)) rfl rfl (rmOk (by omega) rfl) ⟨by first | exact Nat.le_refl _ | exact Nat.zero_le _ | decide | (dsimp only [rm]; omega), by first | exact Nat.le_refl _ | exact Nat.zero_le _ | decide | (dsimp only [rm]; omega)⟩ (rt1 ?_)
            refine gl_if_eq (tgt := 113) dX1_left_99 (by decide) (fun h99 => ?_) (fun h99 => ?_)
            · rw [if_neg (by simp [rwF, bI_fa h99])]
              refine gl_aload_n dX1_left_113 rfl ?_
              refine gl_iconst (v := nI 3) dX1_left_114 (by decide) ?_
              refine gl_callV (m_found L o y (3) (by omega)) dX1_left_115 q1096 q1098 qs44 q75 q1099 rfl hX1_found rfl (rfl : vwCl[1]? = some (RX1, TX1, 21)) rfl rfl (rmOk (by omega) rfl) ⟨by first | exact Nat.le_refl _ | exact Nat.zero_le _ | decide | (dsimp only [rm]; omega), by first | exact Nat.le_refl _ | exact Nat.zero_le _ | decide | (dsimp only [rm]; omega)⟩ (rt1 ?_)
              exact gl_iret dX1_left_118 rfl ⟨rfl, rfl⟩
            · have hq := bI_tr h99
              refine gl_iload dX1_left_102 rfl ?_
              refine gl_i2l dX1_left_104 ?_
              refine gl_lconst (v := 0) dX1_left_105 (by decide) ?_
              refine gl_lconst (v := 1) dX1_left_106 (by decide) ?_
              refine gl_callS (m_in_i L _ _ 0 1 rfl rfl) dX1_left_107 q1093 q1094 q75 q1095 rfl hX1_in rfl rfl (rmOk (by omega) rfl) ⟨by first | exact Nat.le_refl _ | exact Nat.zero_le _ | decide | (dsimp only [rm]; omega), by first | exact Nat.le_refl _ | exact Nat.zero_le _ | decide | (dsimp only [rm]; omega)⟩ (rt1 ?_)
              refine gl_if_ne (tgt := 119) dX1_left_110 (by decide) (fun h110 => ?_) (fun h110 => ?_)
              · have ha := bI_tr h110
                rw [if_pos (show (inR (rwF y k (2 * i)) 0 (y.2.2 23 1 - 1) && inR (rwF y k (2 * i + 1)) 0 1) = true by simp only [Bool.and_eq_true]; exact ⟨hq, ha⟩)]
                have ef : sp_fits y n (y.2.2 20 (40 * k + 2 * i)) = (fsI (y.2.2 23) n (ix (rwF y k (2 * i))), y) := by
                  unfold sp_fits
                  rw [if_pos hq]
                  rfl
                refine gl_iload_n dX1_left_119 rfl ?_
                refine gl_iload dX1_left_120 rfl ?_
                refine gl_iconst (v := nI 1) dX1_left_122 (by decide) ?_
                refine gl_icmp_ne (tgt := 135) dX1_left_123 (by decide) (fun h123 => ?_) (fun h123 => ?_)
                · have ha : ¬ rwF y k (2 * i + 1) = nI 1 := h123
                  rw [if_neg ha]
                  refine gl_aload_n dX1_left_135 rfl ?_
                  refine gl_iload dX1_left_136 rfl ?_
                  refine gl_callV (m_fits L o y hL _) dX1_left_138 q1349 q1233 q1234 q75 q1235 rfl hX1_fits rfl (rfl : vwCl[1]? = some (RX1, TX1, 21)) rfl rfl (rmOk (by omega) rfl) ⟨by first | exact Nat.le_refl _ | exact Nat.zero_le _ | decide | (dsimp only [rm]; omega), by first | exact Nat.le_refl _ | exact Nat.zero_le _ | decide | (dsimp only [rm]; omega)⟩ ?_
                  rw [ef]
                  refine rtP ?_
                  refine gl_iconst (v := (-1)) dX1_left_141 (by decide) ?_
                  refine gl_ixor dX1_left_142 ?_
                  refine gl_iand dX1_left_143 ?_
                  refine gl_istore_n dX1_left_144 rfl rfl ?_
                  refine gl_iinc (v := (nI ((2*i) + 2))) dX1_left_145 rfl (nI_add _ 2) rfl rfl ?_
                  refine gl_goto (tgt := 55) dX1_left_148 (by decide) ?_
                  refine gl_drop 4 (gl_drop 5 ?_)
                  exact ih (i + 1) _ (by omega)
                · have ha : rwF y k (2 * i + 1) = nI 1 := h123
                  rw [if_pos ha]
                  refine gl_aload_n dX1_left_126 rfl ?_
                  refine gl_iload dX1_left_127 rfl ?_
                  refine gl_callV (m_fits L o y hL _) dX1_left_129 q1349 q1233 q1234 q75 q1235 rfl hX1_fits rfl (rfl : vwCl[1]? = some (RX1, TX1, 21)) rfl rfl (rmOk (by omega) rfl) ⟨by first | exact Nat.le_refl _ | exact Nat.zero_le _ | decide | (dsimp only [rm]; omega), by first | exact Nat.le_refl _ | exact Nat.zero_le _ | decide | (dsimp only [rm]; omega)⟩ ?_
                  rw [ef]
                  refine rtP ?_
                  refine gl_goto (tgt := 143) dX1_left_132 (by decide) ?_
                  refine gl_iand dX1_left_143 ?_
                  refine gl_istore_n dX1_left_144 rfl rfl ?_
                  refine gl_iinc (v := (nI ((2*i) + 2))) dX1_left_145 rfl (nI_add _ 2) rfl rfl ?_
                  refine gl_goto (tgt := 55) dX1_left_148 (by decide) ?_
                  refine gl_drop 4 (gl_drop 5 ?_)
                  exact ih (i + 1) _ (by omega)
              · rw [if_neg (by intro z; simp only [Bool.and_eq_true] at z; exact Bool.false_ne_true ((bI_fa h110).symm.trans z.2))]
                refine gl_aload_n dX1_left_113 rfl ?_
                refine gl_iconst (v := nI 3) dX1_left_114 (by decide) ?_
                refine gl_callV (m_found L o y (3) (by omega)) dX1_left_115 q1096 q1098 qs44 q75 q1099 rfl hX1_found rfl (rfl : vwCl[1]? = some (RX1, TX1, 21)) rfl rfl (rmOk (by omega) rfl) ⟨by first | exact Nat.le_refl _ | exact Nat.zero_le _ | decide | (dsimp only [rm]; omega), by first | exact Nat.le_refl _ | exact Nat.zero_le _ | decide | (dsimp only [rm]; omega)⟩ (rt1 ?_)
                exact gl_iret dX1_left_118 rfl ⟨rfl, rfl⟩
        exact key (s / 2) 0 (allC n) (by omega)
      · have hod : s % 2 = 1 := by
          rw [e, nI_rem (by omega) (by omega)] at h33
          exact (nI_eq (by omega) (by omega)).mp h33
        rw [if_pos hod]
        refine gl_aload_n dX1_left_36 rfl ?_
        refine gl_iconst (v := nI 5) dX1_left_37 (by decide) ?_
        refine gl_callV (m_found L o y (5) (by omega)) dX1_left_38 q1096 q1098 qs44 q75 q1099 rfl hX1_found rfl (rfl : vwCl[1]? = some (RX1, TX1, 21)) rfl rfl (rmOk (by omega) rfl) ⟨by first | exact Nat.le_refl _ | exact Nat.zero_le _ | decide | (dsimp only [rm]; omega), by first | exact Nat.le_refl _ | exact Nat.zero_le _ | decide | (dsimp only [rm]; omega)⟩ (rt1 ?_)
        exact gl_iret dX1_left_41 rfl ⟨rfl, rfl⟩
    · rw [if_pos (k2_lt h15)]
      refine gl_aload_n dX1_left_18 rfl ?_
      refine gl_iconst (v := nI 1) dX1_left_19 (by decide) ?_
      refine gl_callV (m_found L o y (1) (by omega)) dX1_left_20 q1096 q1098 qs44 q75 q1099 rfl hX1_found rfl (rfl : vwCl[1]? = some (RX1, TX1, 21)) rfl rfl (rmOk (by omega) rfl) ⟨by first | exact Nat.le_refl _ | exact Nat.zero_le _ | decide | (dsimp only [rm]; omega), by first | exact Nat.le_refl _ | exact Nat.zero_le _ | decide | (dsimp only [rm]; omega)⟩ (rt1 ?_)
      exact gl_iret dX1_left_23 rfl ⟨rfl, rfl⟩
  · unfold sp_left
    rw [if_neg (by simp [bI_fa h4])]
    refine gl_iconst (v := (-1)) dX1_left_7 (by decide) ?_
    exact gl_iret dX1_left_8 rfl ⟨rfl, rfl⟩
end MH

