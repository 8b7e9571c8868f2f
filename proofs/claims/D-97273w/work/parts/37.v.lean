/-! parts, order: the model -/
set_option maxRecDepth 100000
section MI
variable (L : Nat) (o : OY) (y : MY) {n m t : Nat}
def ptFit (w : Nat → Int32) (n k : Nat) : Int32 := mfN w (nI (k / 100)) (nI (k / 10 % 10)) (nI (k % 10)) n
def ptOff (w : Nat → Int32) (n k : Nat) : Int32 := if nI n < nI 2 * ptFit w n k then nI 2 * ptFit w n k - nI n else nI n - nI 2 * ptFit w n k
def ptBad (w : Nat → Int32) (n k : Nat) : Int32 := nI 10 * ptOff w n k + nI (k % 10) - nI (k / 10 % 10)
def ptS (w : Nat → Int32) (n : Nat) : Nat → Int32 × Int32 × Int32
  | 0 => (nI 0, nI 99, nI 0)
  | k + 1 => if k % 10 < k / 10 % 10 then ptS w n k else if ptBad w n k < (ptS w n k).2.1 then (nI k, ptBad w n k, ptFit w n k) else ptS w n k
def sp_parts (y : MY) (n : Nat) : Int32 × MY := if n = 0 then (-4, y) else ((ptS (y.2.2 23) n 600).1, sI y 7 (ptS (y.2.2 23) n 600).2.2)
theorem m_parts (hL : Lb (y.2.2 23) n m t) : Ct yX1_parts gX1_parts (L + 14) 0 0 [.ref 18] (mM o y) (RtP o (sp_parts y n)) := by
  refine Ct.of rfl rfl rfl rfl rfl ?_
  have h7 := hL.c7
  refine gl_aload_n dX1_parts_0 rfl ?_
  refine gl_get (k := 4) dX1_parts_1 rfl (rfl : vwCl[1]? = some (RX1, TX1, 21)) in_X1 (by decide) q1024 rfl ?_
  refine gl_iconst (v := nI 0) dX1_parts_4 (by decide) ?_
  refine gl_iald (j := 0) dX1_parts_5 rfl rfl (by omega) ?_
  rw [hL.c]
  refine gl_if_ne (tgt := 12) dX1_parts_6 (by decide) (fun h6 => ?_) (fun h6 => ?_)
  · have hn : ¬ n = 0 := fun z => h6 (by rw [z]; rfl)
    unfold sp_parts
    rw [if_neg hn]
    refine gl_iconst (v := nI 0) dX1_parts_12 (by decide) ?_
    refine gl_istore_n dX1_parts_13 rfl rfl ?_
    refine gl_bipush (v := nI 99) dX1_parts_14 (by decide) ?_
    refine gl_istore_n dX1_parts_16 rfl rfl ?_
    refine gl_iconst (v := nI 0) dX1_parts_17 (by decide) ?_
    refine gl_istore_n dX1_parts_18 rfl rfl ?_
    refine gl_iconst (v := nI 0) dX1_parts_19 (by decide) ?_
    refine gl_istore dX1_parts_20 rfl rfl ?_
    refine gl_loop (fun k => [some (.ref 18), some (.int (ptS (y.2.2 23) n k).1), some (.int (ptS (y.2.2 23) n k).2.1), some (.int (ptS (y.2.2 23) n k).2.2), some (.int (nI k)), none, none, none, none, none]) (fun _ => mM o y) 600 ?_ ?_
    · intro k hk ih
      refine gl_iload dX1_parts_22 rfl ?_
      refine gl_sipush (v := nI 600) dX1_parts_24 (by decide) ?_
      refine gl_icmp_ge (tgt := 146) dX1_parts_27 (by decide) (fun h => absurd h (nI_ge hk (by omega))) (fun _ => ?_)
      refine gl_iload dX1_parts_30 rfl ?_
      refine gl_bipush (v := nI 10) dX1_parts_32 (by decide) ?_
      refine gl_idiv dX1_parts_34 (by decide) ?_
      refine gl_bipush (v := nI 10) dX1_parts_35 (by decide) ?_
      refine gl_irem dX1_parts_37 (by decide) ?_
      refine gl_top (w := .int (nI (k / 10 % 10))) (by rw [nI_div (by omega) (by omega), nI_rem (by omega) (by omega)]) ?_
      refine gl_istore dX1_parts_38 rfl rfl ?_
      refine gl_iload dX1_parts_40 rfl ?_
      refine gl_bipush (v := nI 10) dX1_parts_42 (by decide) ?_
      refine gl_irem dX1_parts_44 (by decide) ?_
      refine gl_top (w := .int (nI (k % 10))) (by rw [nI_rem (by omega) (by omega)]) ?_
      refine gl_istore dX1_parts_45 rfl rfl ?_
      refine gl_iload dX1_parts_47 rfl ?_
      refine gl_iload dX1_parts_49 rfl ?_
      refine gl_icmp_ge (tgt := 57) dX1_parts_51 (by decide) (fun h51 => ?_) (fun h51 => ?_)
      · have hft : ¬ k % 10 < k / 10 % 10 := by
          have := (nI_leI (by omega) (by omega)).mp h51
          omega
        refine gl_aload_n dX1_parts_57 rfl ?_
        refine gl_iload dX1_parts_58 rfl ?_
        refine gl_bipush (v := nI 100) dX1_parts_60 (by decide) ?_
        refine gl_idiv dX1_parts_62 (by decide) ?_
        refine gl_top (w := .int (nI (k / 100))) (by rw [nI_div (by omega) (by omega)]) ?_
        refine gl_iload dX1_parts_63 rfl ?_
        refine gl_iload dX1_parts_65 rfl ?_
        refine gl_callV (m_manyFit L o y hL _ _ _) dX1_parts_67 q1338 q1340 qs68 q75 q1341 rfl hX1_manyFit rfl (rfl : vwCl[1]? = some (RX1, TX1, 21)) rfl rfl (rmOk (by omega) rfl) ⟨by first | exact Nat.le_refl _ | exact Nat.zero_le _ | decide | (dsimp only [rm]; omega), by first | exact Nat.le_refl _ | exact Nat.zero_le _ | decide | (dsimp only [rm]; omega)⟩ (rt1 ?_)
        refine gl_istore dX1_parts_70 rfl rfl ?_
        rw [show mfN (y.2.2 23) (nI (k / 100)) (nI (k / 10 % 10)) (nI (k % 10)) n = ptFit (y.2.2 23) n k from rfl]
        have t1 : GL gX1_parts (rm (L + 14) 0 0) (RtP o ((ptS (y.2.2 23) n 600).1, sI y 7 (ptS (y.2.2 23) n 600).2.2)) 0 0 110 [some (.ref 18), some (.int (ptS (y.2.2 23) n k).1), some (.int (ptS (y.2.2 23) n k).2.1), some (.int (ptS (y.2.2 23) n k).2.2), some (.int (nI k)), some (.int (nI (k / 10 % 10))), some (.int (nI (k % 10))), some (.int (ptFit (y.2.2 23) n k)), none, none] [.int (ptOff (y.2.2 23) n k)] (mM o y) := by
          refine gl_istore dX1_parts_110 rfl rfl ?_
          refine gl_bipush (v := nI 10) dX1_parts_112 (by decide) ?_
          refine gl_iload dX1_parts_114 rfl ?_
          refine gl_imul dX1_parts_116 ?_
          refine gl_iload dX1_parts_117 rfl ?_
          refine gl_iadd dX1_parts_119 ?_
          refine gl_iload dX1_parts_120 rfl ?_
          refine gl_isub dX1_parts_122 ?_
          refine gl_istore dX1_parts_123 rfl rfl ?_
          refine gl_iload dX1_parts_125 rfl ?_
          refine gl_iload_n dX1_parts_127 rfl ?_
          refine gl_icmp_ge (tgt := 140) dX1_parts_128 (by decide) (fun h128 => ?_) (fun h128 => ?_)
          · have z : ¬ ptBad (y.2.2 23) n k < (ptS (y.2.2 23) n k).2.1 := k2_nlt h128
            refine gl_iinc (v := (nI (k + 1))) dX1_parts_140 rfl (nI_1 _) rfl rfl ?_
            refine gl_goto (tgt := 22) dX1_parts_143 (by decide) ?_
            refine gl_drop 5 (gl_drop 6 (gl_drop 7 (gl_drop 8 (gl_drop 9 (gl_lcs ?_ ih)))))
            simp only [ptS]
            rw [if_neg hft, if_neg z]
            rfl
          · have z : ptBad (y.2.2 23) n k < (ptS (y.2.2 23) n k).2.1 := k2_lt h128
            refine gl_iload dX1_parts_131 rfl ?_
            refine gl_istore_n dX1_parts_133 rfl rfl ?_
            refine gl_iload dX1_parts_134 rfl ?_
            refine gl_istore_n dX1_parts_136 rfl rfl ?_
            refine gl_iload dX1_parts_137 rfl ?_
            refine gl_istore_n dX1_parts_139 rfl rfl ?_
            refine gl_iinc (v := (nI (k + 1))) dX1_parts_140 rfl (nI_1 _) rfl rfl ?_
            refine gl_goto (tgt := 22) dX1_parts_143 (by decide) ?_
            refine gl_drop 5 (gl_drop 6 (gl_drop 7 (gl_drop 8 (gl_drop 9 (gl_lcs ?_ ih)))))
            simp only [ptS]
            rw [if_neg hft, if_pos z]
            rfl
        refine gl_iconst (v := nI 2) dX1_parts_72 (by decide) ?_
        refine gl_iload dX1_parts_73 rfl ?_
        refine gl_imul dX1_parts_75 ?_
        refine gl_aload_n dX1_parts_76 rfl ?_
        refine gl_get (k := 4) dX1_parts_77 rfl (rfl : vwCl[1]? = some (RX1, TX1, 21)) in_X1 (by decide) q1024 rfl ?_
        refine gl_iconst (v := nI 0) dX1_parts_80 (by decide) ?_
        refine gl_iald (j := 0) dX1_parts_81 rfl rfl (by omega) ?_
        rw [hL.c]
        refine gl_icmp_le (tgt := 99) dX1_parts_82 (by decide) (fun h82 => ?_) (fun h82 => ?_)
        · have z : ¬ nI n < nI 2 * ptFit (y.2.2 23) n k := k2_nlt h82
          refine gl_aload_n dX1_parts_99 rfl ?_
          refine gl_get (k := 4) dX1_parts_100 rfl (rfl : vwCl[1]? = some (RX1, TX1, 21)) in_X1 (by decide) q1024 rfl ?_
          refine gl_iconst (v := nI 0) dX1_parts_103 (by decide) ?_
          refine gl_iald (j := 0) dX1_parts_104 rfl rfl (by omega) ?_
          refine gl_iconst (v := nI 2) dX1_parts_105 (by decide) ?_
          refine gl_iload dX1_parts_106 rfl ?_
          refine gl_imul dX1_parts_108 ?_
          refine gl_isub dX1_parts_109 ?_
          refine gl_top (w := .int (ptOff (y.2.2 23) n k)) (by unfold ptOff; rw [if_neg z, hL.c]) ?_
          exact t1
        · have z : nI n < nI 2 * ptFit (y.2.2 23) n k := k2_lt h82
          refine gl_iconst (v := nI 2) dX1_parts_85 (by decide) ?_
          refine gl_iload dX1_parts_86 rfl ?_
          refine gl_imul dX1_parts_88 ?_
          refine gl_aload_n dX1_parts_89 rfl ?_
          refine gl_get (k := 4) dX1_parts_90 rfl (rfl : vwCl[1]? = some (RX1, TX1, 21)) in_X1 (by decide) q1024 rfl ?_
          refine gl_iconst (v := nI 0) dX1_parts_93 (by decide) ?_
          refine gl_iald (j := 0) dX1_parts_94 rfl rfl (by omega) ?_
          refine gl_isub dX1_parts_95 ?_
          refine gl_goto (tgt := 110) dX1_parts_96 (by decide) ?_
          refine gl_top (w := .int (ptOff (y.2.2 23) n k)) (by unfold ptOff; rw [if_pos z, hL.c]) ?_
          exact t1
      · have hft : k % 10 < k / 10 % 10 := by
          have := mt (nI_leI (by omega) (by omega)).mpr h51
          omega
        refine gl_goto (tgt := 140) dX1_parts_54 (by decide) ?_
        refine gl_iinc (v := (nI (k + 1))) dX1_parts_140 rfl (nI_1 _) rfl rfl ?_
        refine gl_goto (tgt := 22) dX1_parts_143 (by decide) ?_
        refine gl_drop 5 (gl_drop 6 (gl_lcs ?_ ih))
        simp only [ptS]
        rw [if_pos hft]
        rfl
    · generalize ptS (y.2.2 23) n 600 = P
      refine gl_iload dX1_parts_22 rfl ?_
      refine gl_sipush (v := nI 600) dX1_parts_24 (by decide) ?_
      refine gl_icmp_ge (tgt := 146) dX1_parts_27 (by decide) (fun _ => ?_) (fun h => absurd (nI_le (Nat.le_refl _) (by omega)) h)
      refine gl_aload_n dX1_parts_146 rfl ?_
      refine gl_iload_n dX1_parts_147 rfl ?_
      refine gl_callV (m_tell L o y _) dX1_parts_148 q1104 q1106 qs45 q75 q1107 rfl hX1_tell rfl (rfl : vwCl[1]? = some (RX1, TX1, 21)) rfl rfl (rmOk (by omega) rfl) ⟨by first | exact Nat.le_refl _ | exact Nat.zero_le _ | decide | (dsimp only [rm]; omega), by first | exact Nat.le_refl _ | exact Nat.zero_le _ | decide | (dsimp only [rm]; omega)⟩ (rt1 ?_)
      refine gl_istore dX1_parts_151 rfl rfl ?_
      refine gl_iload_n dX1_parts_153 rfl ?_
      exact gl_iret dX1_parts_154 rfl ⟨rfl, rfl⟩
  · have hn : n = 0 := (nI_eq (by omega) (by omega)).mp h6
    unfold sp_parts
    rw [if_pos hn]
    refine gl_bipush (v := (-4)) dX1_parts_9 (by decide) ?_
    exact gl_iret dX1_parts_11 rfl ⟨rfl, rfl⟩
def orK (w : Nat → Int32) : Nat → Int32
  | 0 => nI 0
  | c + 1 => orK w c ||| (nI 1 <<< (w (3 + c) &&& 31))
def odS (w : Nat → Int32) (n code : Nat) : Nat → Int32 × Int32
  | 0 => (nI 0, nI 0)
  | s + 1 => ((odS w n code s).1 ||| (nI 1 <<< (nI (code / 7 ^ s % 7) &&& 31)), (odS w n code s).2 + lyN w (nI (code / 7 ^ s % 7)) (nI s) n)
def orS (w : Nat → Int32) (n : Nat) : Nat → Int32
  | 0 => -9
  | k + 1 => if orK w n &&& ((odS w n k 4).1 ^^^ (-1)) = 0 ∧ (orS w n k = -9 ∨ nI n - (odS w n k 4).2 < orS w n k) then nI n - (odS w n k 4).2 else orS w n k
theorem m_order (hL : Lb (y.2.2 23) n m t) : Ct yX1_order gX1_order (L + 14) 0 0 [.ref 18] (mM o y) (RtP o (orS (y.2.2 23) n 2401, y)) := by
  refine Ct.of rfl rfl rfl rfl rfl ?_
  have h7 := hL.c7
  refine gl_iconst (v := nI 0) dX1_order_0 (by decide) ?_
  refine gl_istore_n dX1_order_1 rfl rfl ?_
  refine gl_iconst (v := nI 0) dX1_order_2 (by decide) ?_
  refine gl_istore_n dX1_order_3 rfl rfl ?_
  refine gl_loop (fun c => [some (.ref 18), some (.int (orK (y.2.2 23) c)), some (.int (nI c)), none, none, none, none, none, none]) (fun _ => mM o y) n ?_ ?_
  · intro c hc ih
    refine gl_iload_n dX1_order_4 rfl ?_
    refine gl_aload_n dX1_order_5 rfl ?_
    refine gl_get (k := 4) dX1_order_6 rfl (rfl : vwCl[1]? = some (RX1, TX1, 21)) in_X1 (by decide) q1024 rfl ?_
    refine gl_iconst (v := nI 0) dX1_order_9 (by decide) ?_
    refine gl_iald (j := 0) dX1_order_10 rfl rfl (by omega) ?_
    refine gl_icmp_ge (tgt := 33) dX1_order_11 (by decide) (fun h => absurd h ((by rw [hL.c]; exact nI_ge hc (by omega)))) (fun _ => ?_)
    refine gl_iload_n dX1_order_14 rfl ?_
    refine gl_iconst (v := nI 1) dX1_order_15 (by decide) ?_
    refine gl_aload_n dX1_order_16 rfl ?_
    refine gl_get (k := 4) dX1_order_17 rfl (rfl : vwCl[1]? = some (RX1, TX1, 21)) in_X1 (by decide) q1024 rfl ?_
    refine gl_iconst (v := nI 3) dX1_order_20 (by decide) ?_
    refine gl_iload_n dX1_order_21 rfl ?_
    refine gl_iadd dX1_order_22 ?_
    refine gl_iald (j := (3 + c)) dX1_order_23 rfl (by simp only [nI_add, nI_mul]) (by omega) ?_
    refine gl_ishl dX1_order_24 ?_
    refine gl_ior dX1_order_25 ?_
    refine gl_istore_n dX1_order_26 rfl rfl ?_
    refine gl_iinc (v := (nI (c + 1))) dX1_order_27 rfl (nI_1 _) rfl rfl ?_
    refine gl_goto (tgt := 4) dX1_order_30 (by decide) ?_
    exact ih
  · refine gl_iload_n dX1_order_4 rfl ?_
    refine gl_aload_n dX1_order_5 rfl ?_
    refine gl_get (k := 4) dX1_order_6 rfl (rfl : vwCl[1]? = some (RX1, TX1, 21)) in_X1 (by decide) q1024 rfl ?_
    refine gl_iconst (v := nI 0) dX1_order_9 (by decide) ?_
    refine gl_iald (j := 0) dX1_order_10 rfl rfl (by omega) ?_
    refine gl_icmp_ge (tgt := 33) dX1_order_11 (by decide) (fun _ => ?_) (fun h => absurd ((by rw [hL.c]; exact nI_le (Nat.le_refl _) (by omega))) h)
    refine gl_bipush (v := (-9)) dX1_order_33 (by decide) ?_
    refine gl_istore_n dX1_order_35 rfl rfl ?_
    refine gl_iconst (v := nI 0) dX1_order_36 (by decide) ?_
    refine gl_istore_n dX1_order_37 rfl rfl ?_
    refine gl_loop (fun k => [some (.ref 18), some (.int (orK (y.2.2 23) n)), some (.int (orS (y.2.2 23) n k)), some (.int (nI k)), none, none, none, none, none]) (fun _ => mM o y) 2401 ?_ ?_
    · intro k hk ih
      refine gl_iload_n dX1_order_38 rfl ?_
      refine gl_sipush (v := nI 2401) dX1_order_39 (by decide) ?_
      refine gl_icmp_ge (tgt := 150) dX1_order_42 (by decide) (fun h => absurd h (nI_ge hk (by omega))) (fun _ => ?_)
      refine gl_iload_n dX1_order_45 rfl ?_
      refine gl_istore dX1_order_46 rfl rfl ?_
      refine gl_iconst (v := nI 0) dX1_order_48 (by decide) ?_
      refine gl_istore dX1_order_49 rfl rfl ?_
      refine gl_iconst (v := nI 0) dX1_order_51 (by decide) ?_
      refine gl_istore dX1_order_52 rfl rfl ?_
      refine gl_iconst (v := nI 0) dX1_order_54 (by decide) ?_
      refine gl_istore dX1_order_55 rfl rfl ?_
      refine gl_lcs (lc1 := [some (.ref 18), some (.int (orK (y.2.2 23) n)), some (.int (orS (y.2.2 23) n k)), some (.int (nI k)), some (.int (nI (k / 7 ^ 0))), some (.int (odS (y.2.2 23) n k 0).1), some (.int (odS (y.2.2 23) n k 0).2), some (.int (nI 0)), none]) (by rw [Nat.pow_zero, Nat.div_one]; rfl) ?_
      refine gl_loop (fun s => [some (.ref 18), some (.int (orK (y.2.2 23) n)), some (.int (orS (y.2.2 23) n k)), some (.int (nI k)), some (.int (nI (k / 7 ^ s))), some (.int (odS (y.2.2 23) n k s).1), some (.int (odS (y.2.2 23) n k s).2), some (.int (nI s)), none]) (fun _ => mM o y) 4 ?_ ?_
      · intro s hs ih2
        have hb : k / 7 ^ s ≤ k := Nat.div_le_self _ _
        refine gl_iload dX1_order_57 rfl ?_
        refine gl_iconst (v := nI 4) dX1_order_59 (by decide) ?_
        refine gl_icmp_ge (tgt := 105) dX1_order_60 (by decide) (fun h => absurd h (nI_ge hs (by omega))) (fun _ => ?_)
        refine gl_iload dX1_order_63 rfl ?_
        refine gl_bipush (v := nI 7) dX1_order_65 (by decide) ?_
        refine gl_irem dX1_order_67 (by decide) ?_
        refine gl_top (w := .int (nI (k / 7 ^ s % 7))) (by rw [nI_rem (by omega) (by omega)]) ?_
        refine gl_istore dX1_order_68 rfl rfl ?_
        refine gl_iload dX1_order_70 rfl ?_
        refine gl_bipush (v := nI 7) dX1_order_72 (by decide) ?_
        refine gl_idiv dX1_order_74 (by decide) ?_
        refine gl_top (w := .int (nI (k / 7 ^ (s + 1)))) (by rw [nI_div (by omega) (by omega), Nat.pow_succ, ← Nat.div_div_eq_div_mul]) ?_
        refine gl_istore dX1_order_75 rfl rfl ?_
        refine gl_iload dX1_order_77 rfl ?_
        refine gl_iconst (v := nI 1) dX1_order_79 (by decide) ?_
        refine gl_iload dX1_order_80 rfl ?_
        refine gl_ishl dX1_order_82 ?_
        refine gl_ior dX1_order_83 ?_
        refine gl_istore dX1_order_84 rfl rfl ?_
        refine gl_iload dX1_order_86 rfl ?_
        refine gl_aload_n dX1_order_88 rfl ?_
        refine gl_iload dX1_order_89 rfl ?_
        refine gl_iload dX1_order_91 rfl ?_
        refine gl_callV (m_lying L o y hL _ _) dX1_order_93 q1377 q1379 qs71 q75 q1380 rfl hX1_lying rfl (rfl : vwCl[1]? = some (RX1, TX1, 21)) rfl rfl (rmOk (by omega) rfl) ⟨by first | exact Nat.le_refl _ | exact Nat.zero_le _ | decide | (dsimp only [rm]; omega), by first | exact Nat.le_refl _ | exact Nat.zero_le _ | decide | (dsimp only [rm]; omega)⟩ (rt1 ?_)
        refine gl_iadd dX1_order_96 ?_
        refine gl_istore dX1_order_97 rfl rfl ?_
        refine gl_iinc (v := (nI (s + 1))) dX1_order_99 rfl (nI_1 _) rfl rfl ?_
        refine gl_goto (tgt := 57) dX1_order_102 (by decide) ?_
        refine gl_drop 8 ?_
        exact ih2
      · refine gl_iload dX1_order_57 rfl ?_
        refine gl_iconst (v := nI 4) dX1_order_59 (by decide) ?_
        refine gl_icmp_ge (tgt := 105) dX1_order_60 (by decide) (fun _ => ?_) (fun h => absurd (nI_le (Nat.le_refl _) (by omega)) h)
        refine gl_aload_n dX1_order_105 rfl ?_
        refine gl_get (k := 4) dX1_order_106 rfl (rfl : vwCl[1]? = some (RX1, TX1, 21)) in_X1 (by decide) q1024 rfl ?_
        refine gl_iconst (v := nI 0) dX1_order_109 (by decide) ?_
        refine gl_iald (j := 0) dX1_order_110 rfl rfl (by omega) ?_
        rw [hL.c]
        refine gl_iload dX1_order_111 rfl ?_
        refine gl_isub dX1_order_113 ?_
        refine gl_istore dX1_order_114 rfl rfl ?_
        refine gl_iload_n dX1_order_116 rfl ?_
        refine gl_iload dX1_order_117 rfl ?_
        refine gl_iconst (v := (-1)) dX1_order_119 (by decide) ?_
        refine gl_ixor dX1_order_120 ?_
        refine gl_iand dX1_order_121 ?_
        refine gl_if_ne (tgt := 142) dX1_order_122 (by decide) (fun h122 => ?_) (fun h122 => ?_)
        · have z : ¬ orK (y.2.2 23) n &&& ((odS (y.2.2 23) n k 4).1 ^^^ (-1)) = 0 := h122
          refine gl_iload_n dX1_order_142 rfl ?_
          refine gl_istore_n dX1_order_143 rfl rfl ?_
          refine gl_iinc (v := (nI (k + 1))) dX1_order_144 rfl (nI_1 _) rfl rfl ?_
          refine gl_goto (tgt := 38) dX1_order_147 (by decide) ?_
          refine gl_drop 4 (gl_drop 5 (gl_drop 6 (gl_drop 7 (gl_lcs ?_ ih))))
          simp only [orS]
          rw [if_neg (fun q => z q.1)]
          rfl
        · have z : orK (y.2.2 23) n &&& ((odS (y.2.2 23) n k 4).1 ^^^ (-1)) = 0 := h122
          refine gl_iload_n dX1_order_125 rfl ?_
          refine gl_bipush (v := (-9)) dX1_order_126 (by decide) ?_
          refine gl_icmp_eq (tgt := 137) dX1_order_128 (by decide) (fun h128 => ?_) (fun h128 => ?_)
          · refine gl_iload dX1_order_137 rfl ?_
            refine gl_goto (tgt := 143) dX1_order_139 (by decide) ?_
            refine gl_istore_n dX1_order_143 rfl rfl ?_
            refine gl_iinc (v := (nI (k + 1))) dX1_order_144 rfl (nI_1 _) rfl rfl ?_
            refine gl_goto (tgt := 38) dX1_order_147 (by decide) ?_
            refine gl_drop 4 (gl_drop 5 (gl_drop 6 (gl_drop 7 (gl_lcs ?_ ih))))
            simp only [orS]
            rw [if_pos ⟨z, Or.inl h128⟩]
            rfl
          · refine gl_iload dX1_order_131 rfl ?_
            refine gl_iload_n dX1_order_133 rfl ?_
            refine gl_icmp_ge (tgt := 142) dX1_order_134 (by decide) (fun h134 => ?_) (fun h134 => ?_)
            · have z2 : ¬ nI n - (odS (y.2.2 23) n k 4).2 < orS (y.2.2 23) n k := k2_nlt h134
              refine gl_iload_n dX1_order_142 rfl ?_
              refine gl_istore_n dX1_order_143 rfl rfl ?_
              refine gl_iinc (v := (nI (k + 1))) dX1_order_144 rfl (nI_1 _) rfl rfl ?_
              refine gl_goto (tgt := 38) dX1_order_147 (by decide) ?_
              refine gl_drop 4 (gl_drop 5 (gl_drop 6 (gl_drop 7 (gl_lcs ?_ ih))))
              simp only [orS]
              rw [if_neg (fun q => by rcases q.2 with q | q; exact h128 q; exact z2 q)]
              rfl
            · have z2 : nI n - (odS (y.2.2 23) n k 4).2 < orS (y.2.2 23) n k := k2_lt h134
              refine gl_iload dX1_order_137 rfl ?_
              refine gl_goto (tgt := 143) dX1_order_139 (by decide) ?_
              refine gl_istore_n dX1_order_143 rfl rfl ?_
              refine gl_iinc (v := (nI (k + 1))) dX1_order_144 rfl (nI_1 _) rfl rfl ?_
              refine gl_goto (tgt := 38) dX1_order_147 (by decide) ?_
              refine gl_drop 4 (gl_drop 5 (gl_drop 6 (gl_drop 7 (gl_lcs ?_ ih))))
              simp only [orS]
              rw [if_pos ⟨z, Or.inr z2⟩]
              rfl
    · generalize orS (y.2.2 23) n 2401 = P
      refine gl_iload_n dX1_order_38 rfl ?_
      refine gl_sipush (v := nI 2401) dX1_order_39 (by decide) ?_
      refine gl_icmp_ge (tgt := 150) dX1_order_42 (by decide) (fun _ => ?_) (fun h => absurd (nI_le (Nat.le_refl _) (by omega)) h)
      refine gl_iload_n dX1_order_150 rfl ?_
      exact gl_iret dX1_order_151 rfl ⟨rfl, rfl⟩
end MI

