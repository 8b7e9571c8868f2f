/-! the model's copy -/
set_option maxRecDepth 100000
/-- a local forgotten -/
theorem gl_drop {γ : GG} {R : Room} {K : Option Value → Mem → Prop} {cells slots pc : Nat} {lc : List (Option Value)} {st : List Value} {μ : Mem} (i : Nat) (k : GL γ R K cells slots pc (lc.set i none) st μ) : GL γ R K cells slots pc lc st μ := fun p l e s m args below meth c D b base H locs ls X P S L => by
  refine k p l e s m args below meth c D b base H locs ls X P S ⟨L.1, L.2.1, fun j v h => L.2.2 j v ?_⟩
  rw [List.getElem?_set] at h
  by_cases q : i = j
  · rw [if_pos q] at h
    by_cases q2 : i < lc.length
    · rw [if_pos q2] at h; cases h
    · rw [if_neg q2] at h; cases h
  · rw [if_neg q] at h
    exact h
section MRc
variable (L : Nat) (o : OY) (y : MY) {n m t : Nat}
def sp_copy (y : MY) (r i s j n : Int32) : Int32 × MY := if inR r 0 5 && inR s 0 5 then (if n < 0 then sfnd y 5 else if y.2.2 19 (ix r) < 0 ∨ y.2.2 19 (ix s) < 0 then sfnd y 1 else if i < 0 ∨ j < 0 ∨ (y.2.2 19 (ix r)).toInt < i.toInt + n.toInt ∨ (y.2.2 19 (ix s)).toInt < j.toInt + n.toInt then sfnd y 2 else (nI 1, sA y 20 (va_cpy (y.2.2 20) (y.2.2 20) (40 * ix r + ix i) (40 * ix s + ix j) (ix n)))) else (-1, y)
theorem ml_sum {a b c : Int32} (ha : ¬ a < 0) (hb : ¬ b < 0) : 0 < lg_cmp (a.toInt64 + b.toInt64) c.toInt64 ↔ c.toInt < a.toInt + b.toInt := by
  rw [lc_gt, Int64.le_iff_toInt_le, Int64.toInt_add, Int32.toInt_toInt64, Int32.toInt_toInt64, Int32.toInt_toInt64]
  have h1 := Int32.toInt_lt a
  have h2 := Int32.toInt_lt b
  have h3 : ¬ a.toInt < 0 := fun q => ha (Int32.lt_iff_toInt_lt.mpr q)
  have h4 : ¬ b.toInt < 0 := fun q => hb (Int32.lt_iff_toInt_lt.mpr q)
  rw [Int.bmod_eq_of_le (by omega) (by omega)]
  omega
theorem m_copy (hS : szs (y.2.2 19) 6 40) (r i s j n : Int32) : Ct yX1_copy gX1_copy (L + 12) 0 0 [.ref 18, .int r, .int i, .int s, .int j, .int n] (mM o y) (RtP o (sp_copy y r i s j n)) := by
  refine Ct.of rfl rfl rfl rfl rfl ?_
  refine gl_iload_n dX1_copy_0 rfl ?_
  refine gl_callS (m_isRow L _ _) dX1_copy_1 q1089 q1090 q75 q1091 rfl hX1_isRow rfl rfl (rmOk (by omega) rfl) ⟨by first | exact Nat.le_refl _ | exact Nat.zero_le _ | decide | (dsimp only [rm]; omega), by first | exact Nat.le_refl _ | exact Nat.zero_le _ | decide | (dsimp only [rm]; omega)⟩ (rt1 ?_)
  refine gl_if_eq (tgt := 14) dX1_copy_4 (by decide) (fun h4 => ?_) (fun h4 => ?_)
  · rw [show sp_copy y r i s j n = (-1, y) by simp [sp_copy, bI_fa h4]]
    refine gl_iconst (v := (-1)) dX1_copy_14 (by decide) ?_
    exact gl_iret dX1_copy_15 rfl ⟨rfl, rfl⟩
  · have hr := bI_tr h4
    refine gl_iload_n dX1_copy_7 rfl ?_
    refine gl_callS (m_isRow L _ _) dX1_copy_8 q1089 q1090 q75 q1091 rfl hX1_isRow rfl rfl (rmOk (by omega) rfl) ⟨by first | exact Nat.le_refl _ | exact Nat.zero_le _ | decide | (dsimp only [rm]; omega), by first | exact Nat.le_refl _ | exact Nat.zero_le _ | decide | (dsimp only [rm]; omega)⟩ (rt1 ?_)
    refine gl_if_ne (tgt := 16) dX1_copy_11 (by decide) (fun h11 => ?_) (fun h11 => ?_)
    · have hs := bI_tr h11
      obtain ⟨k, -, hk, rfl⟩ := inR_nat (a := 0) (b := 5) (by omega) (by omega) hr
      obtain ⟨q, -, hq, rfl⟩ := inR_nat (a := 0) (b := 5) (by omega) (by omega) hs
      unfold sp_copy
      rw [if_pos (by rw [hr, hs]; rfl), ix_nI (show k < 100 by omega), ix_nI (show q < 100 by omega)]
      refine gl_iload dX1_copy_16 rfl ?_
      refine gl_if_ge (tgt := 27) dX1_copy_18 (by decide) (fun h18 => ?_) (fun h18 => ?_)
      · rw [if_neg (k2_nlt h18)]
        refine gl_aload_n dX1_copy_27 rfl ?_
        refine gl_get (k := 0) dX1_copy_28 rfl (rfl : vwCl[1]? = some (RX1, TX1, 21)) in_X1 (by decide) q1020 rfl ?_
        refine gl_iload_n dX1_copy_31 rfl ?_
        refine gl_iald (j := k) dX1_copy_32 rfl rfl (by omega) ?_
        refine gl_if_lt (tgt := 45) dX1_copy_33 (by decide) (fun h33 => ?_) (fun h33 => ?_)
        · rw [if_pos (Or.inl h33)]
          refine gl_aload_n dX1_copy_45 rfl ?_
          refine gl_iconst (v := nI 1) dX1_copy_46 (by decide) ?_
          refine gl_callV (m_found L o y (1) (by omega)) dX1_copy_47 q1096 q1098 qs44 q75 q1099 rfl hX1_found rfl (rfl : vwCl[1]? = some (RX1, TX1, 21)) rfl rfl (rmOk (by omega) rfl) ⟨by first | exact Nat.le_refl _ | exact Nat.zero_le _ | decide | (dsimp only [rm]; omega), by first | exact Nat.le_refl _ | exact Nat.zero_le _ | decide | (dsimp only [rm]; omega)⟩ (rt1 ?_)
          exact gl_iret dX1_copy_50 rfl ⟨rfl, rfl⟩
        · refine gl_aload_n dX1_copy_36 rfl ?_
          refine gl_get (k := 0) dX1_copy_37 rfl (rfl : vwCl[1]? = some (RX1, TX1, 21)) in_X1 (by decide) q1020 rfl ?_
          refine gl_iload_n dX1_copy_40 rfl ?_
          refine gl_iald (j := q) dX1_copy_41 rfl rfl (by omega) ?_
          refine gl_if_ge (tgt := 51) dX1_copy_42 (by decide) (fun h42 => ?_) (fun h42 => ?_)
          · have h42' := k2_nlt h42
            rw [if_neg (by intro q; rcases q with q | q; exact h33 q; exact h42' q)]
            refine gl_iload_n dX1_copy_51 rfl ?_
            refine gl_if_lt (tgt := 95) dX1_copy_52 (by decide) (fun h52 => ?_) (fun h52 => ?_)
            · rw [if_pos (Or.inl h52)]
              refine gl_aload_n dX1_copy_95 rfl ?_
              refine gl_iconst (v := nI 2) dX1_copy_96 (by decide) ?_
              refine gl_callV (m_found L o y (2) (by omega)) dX1_copy_97 q1096 q1098 qs44 q75 q1099 rfl hX1_found rfl (rfl : vwCl[1]? = some (RX1, TX1, 21)) rfl rfl (rmOk (by omega) rfl) ⟨by first | exact Nat.le_refl _ | exact Nat.zero_le _ | decide | (dsimp only [rm]; omega), by first | exact Nat.le_refl _ | exact Nat.zero_le _ | decide | (dsimp only [rm]; omega)⟩ (rt1 ?_)
              exact gl_iret dX1_copy_100 rfl ⟨rfl, rfl⟩
            · refine gl_iload dX1_copy_55 rfl ?_
              refine gl_if_lt (tgt := 95) dX1_copy_57 (by decide) (fun h57 => ?_) (fun h57 => ?_)
              · rw [if_pos (Or.inr (Or.inl h57))]
                refine gl_aload_n dX1_copy_95 rfl ?_
                refine gl_iconst (v := nI 2) dX1_copy_96 (by decide) ?_
                refine gl_callV (m_found L o y (2) (by omega)) dX1_copy_97 q1096 q1098 qs44 q75 q1099 rfl hX1_found rfl (rfl : vwCl[1]? = some (RX1, TX1, 21)) rfl rfl (rmOk (by omega) rfl) ⟨by first | exact Nat.le_refl _ | exact Nat.zero_le _ | decide | (dsimp only [rm]; omega), by first | exact Nat.le_refl _ | exact Nat.zero_le _ | decide | (dsimp only [rm]; omega)⟩ (rt1 ?_)
                exact gl_iret dX1_copy_100 rfl ⟨rfl, rfl⟩
              · refine gl_iload_n dX1_copy_60 rfl ?_
                refine gl_i2l dX1_copy_61 ?_
                refine gl_iload dX1_copy_62 rfl ?_
                refine gl_i2l dX1_copy_64 ?_
                refine gl_ladd dX1_copy_65 ?_
                refine gl_aload_n dX1_copy_66 rfl ?_
                refine gl_get (k := 0) dX1_copy_67 rfl (rfl : vwCl[1]? = some (RX1, TX1, 21)) in_X1 (by decide) q1020 rfl ?_
                refine gl_iload_n dX1_copy_70 rfl ?_
                refine gl_iald (j := k) dX1_copy_71 rfl rfl (by omega) ?_
                refine gl_i2l dX1_copy_72 ?_
                refine gl_lcmp dX1_copy_73 ?_
                refine gl_if_gt (tgt := 95) dX1_copy_74 (by decide) (fun h74 => ?_) (fun h74 => ?_)
                · rw [if_pos (Or.inr (Or.inr (Or.inl ((ml_sum h52 (k2_nlt h18)).mp h74))))]
                  refine gl_aload_n dX1_copy_95 rfl ?_
                  refine gl_iconst (v := nI 2) dX1_copy_96 (by decide) ?_
                  refine gl_callV (m_found L o y (2) (by omega)) dX1_copy_97 q1096 q1098 qs44 q75 q1099 rfl hX1_found rfl (rfl : vwCl[1]? = some (RX1, TX1, 21)) rfl rfl (rmOk (by omega) rfl) ⟨by first | exact Nat.le_refl _ | exact Nat.zero_le _ | decide | (dsimp only [rm]; omega), by first | exact Nat.le_refl _ | exact Nat.zero_le _ | decide | (dsimp only [rm]; omega)⟩ (rt1 ?_)
                  exact gl_iret dX1_copy_100 rfl ⟨rfl, rfl⟩
                · have h74' : ¬ (y.2.2 19 k).toInt < i.toInt + n.toInt := fun q => h74 ((ml_sum h52 (k2_nlt h18)).mpr q)
                  refine gl_iload dX1_copy_77 rfl ?_
                  refine gl_i2l dX1_copy_79 ?_
                  refine gl_iload dX1_copy_80 rfl ?_
                  refine gl_i2l dX1_copy_82 ?_
                  refine gl_ladd dX1_copy_83 ?_
                  refine gl_aload_n dX1_copy_84 rfl ?_
                  refine gl_get (k := 0) dX1_copy_85 rfl (rfl : vwCl[1]? = some (RX1, TX1, 21)) in_X1 (by decide) q1020 rfl ?_
                  refine gl_iload_n dX1_copy_88 rfl ?_
                  refine gl_iald (j := q) dX1_copy_89 rfl rfl (by omega) ?_
                  refine gl_i2l dX1_copy_90 ?_
                  refine gl_lcmp dX1_copy_91 ?_
                  refine gl_if_le (tgt := 101) dX1_copy_92 (by decide) (fun h92 => ?_) (fun h92 => ?_)
                  · have h92' : ¬ (y.2.2 19 q).toInt < j.toInt + n.toInt := fun z => k2_nlt h92 ((ml_sum h57 (k2_nlt h18)).mpr z)
                    rw [if_neg (by intro q; rcases q with q | q | q | q; exact h52 q; exact h57 q; exact h74' q; exact h92' q)]
                    obtain ⟨a, ha, ea⟩ := sz_lt (by omega) hS (show k < 6 by omega) h33
                    obtain ⟨b, hb, eb⟩ := sz_lt (by omega) hS (show q < 6 by omega) h42'
                    obtain ⟨i, hi, rfl⟩ := nI_of h52
                    obtain ⟨j, hj, rfl⟩ := nI_of h57
                    obtain ⟨n, hn, rfl⟩ := nI_of (k2_nlt h18)
                    rw [ea, nI_toInt (by omega), nI_toInt hi, nI_toInt hn] at h74'
                    rw [eb, nI_toInt (by omega), nI_toInt hj, nI_toInt hn] at h92'
                    have e1 : ix (nI i) = i := ix_nI (by omega)
                    have e2 : ix (nI j) = j := ix_nI (by omega)
                    have e3 : ix (nI n) = n := ix_nI (by omega)
                    rw [e1, e2, e3]
                    by_cases hij : j ≤ i
                    · refine gl_iconst (v := nI 0) dX1_copy_101 (by decide) ?_
                      refine gl_istore dX1_copy_102 rfl rfl ?_
                      refine gl_mem (μ1 := mM o (sA y 20 (va_cpy (y.2.2 20) (y.2.2 20) (40 * k + i) (40 * q + j) 0))) (by rw [cpy_0]; rfl) ?_
                      refine gl_loop (fun z => [some (.ref 18), some (.int (nI k)), some (.int (nI i)), some (.int (nI q)), some (.int (nI j)), some (.int (nI n)), some (.int (nI z)), none]) (fun z => mM o (sA y 20 (va_cpy (y.2.2 20) (y.2.2 20) (40 * k + i) (40 * q + j) z))) n ?_ ?_
                      · intro z hz ih
                        refine gl_iload dX1_copy_104 rfl ?_
                        refine gl_iload dX1_copy_106 rfl ?_
                        refine gl_icmp_ge (tgt := 166) dX1_copy_108 (by decide) (fun h => absurd h (nI_ge hz (by omega))) (fun _ => ?_)
                        refine gl_iload dX1_copy_111 rfl ?_
                        refine gl_iload_n dX1_copy_113 rfl ?_
                        refine gl_icmp_le (tgt := 127) dX1_copy_114 (by decide) (fun _ => ?_) (fun h => absurd (nI_le hij (by omega)) h)
                        refine gl_iload dX1_copy_127 rfl ?_
                        refine gl_istore dX1_copy_129 rfl rfl ?_
                        refine gl_aload_n dX1_copy_131 rfl ?_
                        refine gl_get (k := 1) dX1_copy_132 rfl (rfl : vwCl[1]? = some (RX1, TX1, 21)) in_X1 (by decide) q1021 rfl ?_
                        refine gl_bipush (v := nI 40) dX1_copy_135 (by decide) ?_
                        refine gl_iload_n dX1_copy_137 rfl ?_
                        refine gl_imul dX1_copy_138 ?_
                        refine gl_iload dX1_copy_139 rfl ?_
                        refine gl_iadd dX1_copy_141 ?_
                        refine gl_iload dX1_copy_142 rfl ?_
                        refine gl_iadd dX1_copy_144 ?_
                        refine gl_aload_n dX1_copy_145 rfl ?_
                        refine gl_get (k := 1) dX1_copy_146 rfl (rfl : vwCl[1]? = some (RX1, TX1, 21)) in_X1 (by decide) q1021 rfl ?_
                        refine gl_bipush (v := nI 40) dX1_copy_149 (by decide) ?_
                        refine gl_iload_n dX1_copy_151 rfl ?_
                        refine gl_imul dX1_copy_152 ?_
                        refine gl_iload_n dX1_copy_153 rfl ?_
                        refine gl_iadd dX1_copy_154 ?_
                        refine gl_iload dX1_copy_155 rfl ?_
                        refine gl_iadd dX1_copy_157 ?_
                        refine gl_iald (j := (((40 * k) + i) + z)) dX1_copy_158 rfl (by simp only [nI_add, nI_mul]) (by omega) ?_
                        refine gl_iast (j := (((40 * q) + j) + z)) dX1_copy_159 rfl (by simp only [nI_add, nI_mul]) (by omega) ?_
                        refine gl_mem (μ1 := mM o (sA y 20 (va_cpy (y.2.2 20) (y.2.2 20) (40 * k + i) (40 * q + j) (z + 1)))) (by rw [← cpy_s]; show mM o (sA y 20 (upd _ _ (va_cpy _ _ _ _ _ _))) = _; rw [pk_cpy_out (by omega)]; rfl) ?_
                        refine gl_iinc (v := (nI (z + 1))) dX1_copy_160 rfl (nI_1 _) rfl rfl ?_
                        refine gl_goto (tgt := 104) dX1_copy_163 (by decide) ?_
                        refine gl_drop 7 ?_
                        exact ih
                      · refine gl_iload dX1_copy_104 rfl ?_
                        refine gl_iload dX1_copy_106 rfl ?_
                        refine gl_icmp_ge (tgt := 166) dX1_copy_108 (by decide) (fun _ => ?_) (fun h => absurd (nI_le (Nat.le_refl _) (by omega)) h)
                        refine gl_iconst (v := nI 1) dX1_copy_166 (by decide) ?_
                        exact gl_iret dX1_copy_167 rfl ⟨rfl, rfl⟩
                    · refine gl_iconst (v := nI 0) dX1_copy_101 (by decide) ?_
                      refine gl_istore dX1_copy_102 rfl rfl ?_
                      refine gl_mem (μ1 := mM o (sA y 20 (va_cpy (y.2.2 20) (y.2.2 20) (40 * k + i + (n - 0)) (40 * q + j + (n - 0)) 0))) (by rw [cpy_0]; rfl) ?_
                      refine gl_loop (fun z => [some (.ref 18), some (.int (nI k)), some (.int (nI i)), some (.int (nI q)), some (.int (nI j)), some (.int (nI n)), some (.int (nI z)), none]) (fun z => mM o (sA y 20 (va_cpy (y.2.2 20) (y.2.2 20) (40 * k + i + (n - z)) (40 * q + j + (n - z)) z))) n ?_ ?_
                      · intro z hz ih
                        refine gl_iload dX1_copy_104 rfl ?_
                        refine gl_iload dX1_copy_106 rfl ?_
                        refine gl_icmp_ge (tgt := 166) dX1_copy_108 (by decide) (fun h => absurd h (nI_ge hz (by omega))) (fun _ => ?_)
                        refine gl_iload dX1_copy_111 rfl ?_
                        refine gl_iload_n dX1_copy_113 rfl ?_
                        refine gl_icmp_le (tgt := 127) dX1_copy_114 (by decide) (fun h => absurd h (nI_ge (by omega) (by omega))) (fun _ => ?_)
                        refine gl_iload dX1_copy_117 rfl ?_
                        refine gl_iconst (v := nI 1) dX1_copy_119 (by decide) ?_
                        refine gl_isub dX1_copy_120 ?_
                        refine gl_iload dX1_copy_121 rfl ?_
                        refine gl_isub dX1_copy_123 ?_
                        refine gl_goto (tgt := 129) dX1_copy_124 (by decide) ?_
                        rw [show nI n - nI 1 - nI z = nI (n - 1 - z) by rw [nI_sub (by omega), nI_sub (by omega)]]
                        refine gl_istore dX1_copy_129 rfl rfl ?_
                        refine gl_aload_n dX1_copy_131 rfl ?_
                        refine gl_get (k := 1) dX1_copy_132 rfl (rfl : vwCl[1]? = some (RX1, TX1, 21)) in_X1 (by decide) q1021 rfl ?_
                        refine gl_bipush (v := nI 40) dX1_copy_135 (by decide) ?_
                        refine gl_iload_n dX1_copy_137 rfl ?_
                        refine gl_imul dX1_copy_138 ?_
                        refine gl_iload dX1_copy_139 rfl ?_
                        refine gl_iadd dX1_copy_141 ?_
                        refine gl_iload dX1_copy_142 rfl ?_
                        refine gl_iadd dX1_copy_144 ?_
                        refine gl_aload_n dX1_copy_145 rfl ?_
                        refine gl_get (k := 1) dX1_copy_146 rfl (rfl : vwCl[1]? = some (RX1, TX1, 21)) in_X1 (by decide) q1021 rfl ?_
                        refine gl_bipush (v := nI 40) dX1_copy_149 (by decide) ?_
                        refine gl_iload_n dX1_copy_151 rfl ?_
                        refine gl_imul dX1_copy_152 ?_
                        refine gl_iload_n dX1_copy_153 rfl ?_
                        refine gl_iadd dX1_copy_154 ?_
                        refine gl_iload dX1_copy_155 rfl ?_
                        refine gl_iadd dX1_copy_157 ?_
                        refine gl_iald (j := (((40 * k) + i) + (n-1-z))) dX1_copy_158 rfl (by simp only [nI_add, nI_mul]) (by omega) ?_
                        refine gl_iast (j := (((40 * q) + j) + (n-1-z))) dX1_copy_159 rfl (by simp only [nI_add, nI_mul]) (by omega) ?_
                        refine gl_mem (μ1 := mM o (sA y 20 (va_cpy (y.2.2 20) (y.2.2 20) (40 * k + i + (n - (z + 1))) (40 * q + j + (n - (z + 1))) (z + 1)))) (by rw [← cpy_b _ _ _ _ _ _ hz]; show mM o (sA y 20 (upd _ _ (va_cpy _ _ _ _ _ _))) = _; rw [pk_cpy_out (by omega)]; rfl) ?_
                        refine gl_iinc (v := (nI (z + 1))) dX1_copy_160 rfl (nI_1 _) rfl rfl ?_
                        refine gl_goto (tgt := 104) dX1_copy_163 (by decide) ?_
                        refine gl_drop 7 ?_
                        exact ih
                      · refine gl_iload dX1_copy_104 rfl ?_
                        refine gl_iload dX1_copy_106 rfl ?_
                        refine gl_icmp_ge (tgt := 166) dX1_copy_108 (by decide) (fun _ => ?_) (fun h => absurd (nI_le (Nat.le_refl _) (by omega)) h)
                        rw [Nat.sub_self, Nat.add_zero, Nat.add_zero]
                        refine gl_iconst (v := nI 1) dX1_copy_166 (by decide) ?_
                        exact gl_iret dX1_copy_167 rfl ⟨rfl, rfl⟩
                  · rw [if_pos (Or.inr (Or.inr (Or.inr ((ml_sum h57 (k2_nlt h18)).mp (k2_lt h92)))))]
                    refine gl_aload_n dX1_copy_95 rfl ?_
                    refine gl_iconst (v := nI 2) dX1_copy_96 (by decide) ?_
                    refine gl_callV (m_found L o y (2) (by omega)) dX1_copy_97 q1096 q1098 qs44 q75 q1099 rfl hX1_found rfl (rfl : vwCl[1]? = some (RX1, TX1, 21)) rfl rfl (rmOk (by omega) rfl) ⟨by first | exact Nat.le_refl _ | exact Nat.zero_le _ | decide | (dsimp only [rm]; omega), by first | exact Nat.le_refl _ | exact Nat.zero_le _ | decide | (dsimp only [rm]; omega)⟩ (rt1 ?_)
                    exact gl_iret dX1_copy_100 rfl ⟨rfl, rfl⟩
          · rw [if_pos (Or.inr (k2_lt h42))]
            refine gl_aload_n dX1_copy_45 rfl ?_
            refine gl_iconst (v := nI 1) dX1_copy_46 (by decide) ?_
            refine gl_callV (m_found L o y (1) (by omega)) dX1_copy_47 q1096 q1098 qs44 q75 q1099 rfl hX1_found rfl (rfl : vwCl[1]? = some (RX1, TX1, 21)) rfl rfl (rmOk (by omega) rfl) ⟨by first | exact Nat.le_refl _ | exact Nat.zero_le _ | decide | (dsimp only [rm]; omega), by first | exact Nat.le_refl _ | exact Nat.zero_le _ | decide | (dsimp only [rm]; omega)⟩ (rt1 ?_)
            exact gl_iret dX1_copy_50 rfl ⟨rfl, rfl⟩
      · rw [if_pos (k2_lt h18)]
        refine gl_aload_n dX1_copy_21 rfl ?_
        refine gl_iconst (v := nI 5) dX1_copy_22 (by decide) ?_
        refine gl_callV (m_found L o y (5) (by omega)) dX1_copy_23 q1096 q1098 qs44 q75 q1099 rfl hX1_found rfl (rfl : vwCl[1]? = some (RX1, TX1, 21)) rfl rfl (rmOk (by omega) rfl) ⟨by first | exact Nat.le_refl _ | exact Nat.zero_le _ | decide | (dsimp only [rm]; omega), by first | exact Nat.le_refl _ | exact Nat.zero_le _ | decide | (dsimp only [rm]; omega)⟩ (rt1 ?_)
        exact gl_iret dX1_copy_26 rfl ⟨rfl, rfl⟩
    · rw [show sp_copy y r i s j n = (-1, y) by simp [sp_copy, bI_fa h11]]
      refine gl_iconst (v := (-1)) dX1_copy_14 (by decide) ?_
      exact gl_iret dX1_copy_15 rfl ⟨rfl, rfl⟩
end MRc

