/-! matchings: one counted (the model) -/
set_option maxRecDepth 100000
/-- most, all, within, best -/
abbrev QS : Type := Int32 × Int32 × (Nat → Int32) × (Nat → Int32)
def bstF (ch : Nat → Int32) (n : Nat) (b : Nat → Int32) : Nat → Nat → Int32
  | 0 => b
  | k + 1 => upd (bstF ch n b k) k (if ch k < nI n then ch k else -9)
def wthF (ch : Nat → Int32) (n : Nat) (f : Nat → Int32) : Nat → Nat → Int32
  | 0 => f
  | k + 1 => if ch k < nI n then upd (wthF ch n f k) (7 * k + ix (ch k)) (wthF ch n f k (7 * k + ix (ch k)) + nI 1) else wthF ch n f k
def vis1 (n m : Nat) (ch : Nat → Int32) (sum : Int32) (s : QS) : QS := if s.1 < sum then (sum, nI 0, fillI s.2.2.1 0 (nI 0) 49, bstF ch n s.2.2.2 m) else s
def vis2 (n m : Nat) (ch : Nat → Int32) (sum : Int32) (s : QS) : QS := if sum = s.1 then (s.1, s.2.1 + nI 1, wthF ch n s.2.2.1 m, s.2.2.2) else s
def vis (n m : Nat) (ch : Nat → Int32) (sum : Int32) (s : QS) : QS := vis2 n m ch sum (vis1 n m ch sum s)
def mqS (y : MY) (ch : Nat → Int32) (s : QS) : MY := sI (sI (sA (sA (sA y 28 ch) 30 s.2.2.1) 29 s.2.2.2) 18 s.1) 17 s.2.1
section MX
variable (L : Nat) (o : OY) (y : MY) {n m t : Nat}
theorem m_counts (hL : Lb (y.2.2 23) n m t) (ch : Nat → Int32) (hch : ∀ q, q < m → ∃ c, c ≤ n ∧ ch q = nI c) (s : QS) (sum : Int32) : Ct yX1_counts gX1_counts (L + 10) 0 0 [.ref 18, .int sum] (mM o (mqS y ch s)) (Rt none (mM o (mqS y ch (vis n m ch sum s)))) := by
  refine Ct.of rfl rfl rfl rfl rfl ?_
  have h7 := hL.c7
  have h7q := hL.q7
  have s2 : ∀ u : QS, GL gX1_counts (rm (L + 10) 0 0) (Rt none (mM o (mqS y ch (vis2 n m ch sum u)))) 0 0 91 [some (.ref 18), some (.int sum), some (.int (nI n)), none] [] (mM o (mqS y ch u)) := by
    intro u
    refine gl_iload_n dX1_counts_91 rfl ?_
    refine gl_aload_n dX1_counts_92 rfl ?_
    refine gl_get (k := 18) dX1_counts_93 rfl (rfl : vwCl[1]? = some (RX1, TX1, 21)) in_X1 (by decide) q1038 rfl ?_
    refine gl_icmp_ne (tgt := 157) dX1_counts_96 (by decide) (fun h96 => ?_) (fun h96 => ?_)
    · unfold vis2
      rw [if_neg (show ¬ sum = u.1 from h96)]
      exact gl_vret dX1_counts_157 rfl ⟨rfl, rfl⟩
    · unfold vis2
      rw [if_pos (show sum = u.1 from h96)]
      refine gl_aload_n dX1_counts_99 rfl ?_
      refine gl_dup dX1_counts_100 rfl ?_
      refine gl_get (k := 17) dX1_counts_101 rfl (rfl : vwCl[1]? = some (RX1, TX1, 21)) in_X1 (by decide) q1037 rfl ?_
      refine gl_iconst (v := nI 1) dX1_counts_104 (by decide) ?_
      refine gl_iadd dX1_counts_105 ?_
      refine gl_put (k := 17) dX1_counts_106 rfl (rfl : vwCl[1]? = some (RX1, TX1, 21)) in_X1 tyX1 tyX1_ok nmX1 (by decide) rfl q1037 (fun _ _ => ⟨rfl, rfl⟩) rfl ?_
      refine gl_mem (μ1 := mM o (mqS y ch (u.1, u.2.1 + nI 1, u.2.2.1, u.2.2.2))) rfl ?_
      refine gl_iconst (v := nI 0) dX1_counts_109 (by decide) ?_
      refine gl_istore_n dX1_counts_110 rfl rfl ?_
      refine gl_loop (fun k => [some (.ref 18), some (.int sum), some (.int (nI n)), some (.int (nI k))]) (fun k => mM o (mqS y ch (u.1, u.2.1 + nI 1, wthF ch n u.2.2.1 k, u.2.2.2))) m ?_ ?_
      · intro k hk ih
        obtain ⟨c, hc, ec⟩ := hch k hk
        refine gl_iload_n dX1_counts_111 rfl ?_
        refine gl_aload_n dX1_counts_112 rfl ?_
        refine gl_get (k := 4) dX1_counts_113 rfl (rfl : vwCl[1]? = some (RX1, TX1, 21)) in_X1 (by decide) q1024 rfl ?_
        refine gl_iconst (v := nI 1) dX1_counts_116 (by decide) ?_
        refine gl_iald (j := 1) dX1_counts_117 rfl rfl (by omega) ?_
        refine gl_icmp_ge (tgt := 157) dX1_counts_118 (by decide) (fun h => absurd h ((by show ¬ y.2.2 23 1 ≤ nI k; rw [hL.q]; exact nI_ge hk (by omega)))) (fun _ => ?_)
        refine gl_aload_n dX1_counts_121 rfl ?_
        refine gl_get (k := 14) dX1_counts_122 rfl (rfl : vwCl[1]? = some (RX1, TX1, 21)) in_X1 (by decide) q1034 rfl ?_
        refine gl_iload_n dX1_counts_125 rfl ?_
        refine gl_iald (j := k) dX1_counts_126 rfl rfl (by omega) ?_
        refine gl_iload_n dX1_counts_127 rfl ?_
        refine gl_icmp_ge (tgt := 151) dX1_counts_128 (by decide) (fun h128 => ?_) (fun h128 => ?_)
        · have z : ¬ ch k < nI n := k2_nlt h128
          refine gl_iinc (v := (nI (k + 1))) dX1_counts_151 rfl (nI_1 _) rfl rfl ?_
          refine gl_goto (tgt := 111) dX1_counts_154 (by decide) ?_
          refine gl_mem ?_ ih
          simp only [wthF]
          rw [if_neg z]
        · have z : ch k < nI n := k2_lt h128
          have hcn : c < n := by rw [ec] at z; exact (nI_ltI (by omega) (by omega)).mp z
          refine gl_aload_n dX1_counts_131 rfl ?_
          refine gl_get (k := 16) dX1_counts_132 rfl (rfl : vwCl[1]? = some (RX1, TX1, 21)) in_X1 (by decide) q1036 rfl ?_
          refine gl_bipush (v := nI 7) dX1_counts_135 (by decide) ?_
          refine gl_iload_n dX1_counts_137 rfl ?_
          refine gl_imul dX1_counts_138 ?_
          refine gl_aload_n dX1_counts_139 rfl ?_
          refine gl_get (k := 14) dX1_counts_140 rfl (rfl : vwCl[1]? = some (RX1, TX1, 21)) in_X1 (by decide) q1034 rfl ?_
          refine gl_iload_n dX1_counts_143 rfl ?_
          refine gl_iald (j := k) dX1_counts_144 rfl rfl (by omega) ?_
          refine gl_top (w := .int (nI c)) (by rw [← ec]; rfl) ?_
          refine gl_iadd dX1_counts_145 ?_
          refine gl_dup2 dX1_counts_146 rfl rfl ?_
          refine gl_iald (j := (7*k+c)) dX1_counts_147 rfl (by simp only [nI_add, nI_mul]) (by omega) ?_
          refine gl_iconst (v := nI 1) dX1_counts_148 (by decide) ?_
          refine gl_iadd dX1_counts_149 ?_
          refine gl_iast (j := (7*k+c)) dX1_counts_150 rfl (by simp only [nI_add, nI_mul]) (by omega) ?_
          refine gl_iinc (v := (nI (k + 1))) dX1_counts_151 rfl (nI_1 _) rfl rfl ?_
          refine gl_goto (tgt := 111) dX1_counts_154 (by decide) ?_
          refine gl_mem ?_ ih
          simp only [wthF]
          rw [if_pos z, ec, ix_nI (show c < 100 by omega)]
          rfl
      · refine gl_iload_n dX1_counts_111 rfl ?_
        refine gl_aload_n dX1_counts_112 rfl ?_
        refine gl_get (k := 4) dX1_counts_113 rfl (rfl : vwCl[1]? = some (RX1, TX1, 21)) in_X1 (by decide) q1024 rfl ?_
        refine gl_iconst (v := nI 1) dX1_counts_116 (by decide) ?_
        refine gl_iald (j := 1) dX1_counts_117 rfl rfl (by omega) ?_
        refine gl_icmp_ge (tgt := 157) dX1_counts_118 (by decide) (fun _ => ?_) (fun h => absurd ((by show y.2.2 23 1 ≤ nI m; rw [hL.q]; exact nI_le (Nat.le_refl _) (by omega))) h)
        exact gl_vret dX1_counts_157 rfl ⟨rfl, rfl⟩
  refine gl_aload_n dX1_counts_0 rfl ?_
  refine gl_get (k := 4) dX1_counts_1 rfl (rfl : vwCl[1]? = some (RX1, TX1, 21)) in_X1 (by decide) q1024 rfl ?_
  refine gl_iconst (v := nI 0) dX1_counts_4 (by decide) ?_
  refine gl_iald (j := 0) dX1_counts_5 rfl rfl (by omega) ?_
  refine gl_top (w := .int (nI n)) (by rw [← hL.c]; rfl) ?_
  refine gl_istore_n dX1_counts_6 rfl rfl ?_
  refine gl_iload_n dX1_counts_7 rfl ?_
  refine gl_aload_n dX1_counts_8 rfl ?_
  refine gl_get (k := 18) dX1_counts_9 rfl (rfl : vwCl[1]? = some (RX1, TX1, 21)) in_X1 (by decide) q1038 rfl ?_
  refine gl_icmp_le (tgt := 91) dX1_counts_12 (by decide) (fun h12 => ?_) (fun h12 => ?_)
  · have z : ¬ s.1 < sum := k2_nlt h12
    unfold vis vis1
    rw [if_neg z]
    exact s2 s
  · have z : s.1 < sum := k2_lt h12
    unfold vis vis1
    rw [if_pos z]
    refine gl_aload_n dX1_counts_15 rfl ?_
    refine gl_iload_n dX1_counts_16 rfl ?_
    refine gl_put (k := 18) dX1_counts_17 rfl (rfl : vwCl[1]? = some (RX1, TX1, 21)) in_X1 tyX1 tyX1_ok nmX1 (by decide) rfl q1038 (fun _ _ => ⟨rfl, rfl⟩) rfl ?_
    refine gl_aload_n dX1_counts_20 rfl ?_
    refine gl_iconst (v := nI 0) dX1_counts_21 (by decide) ?_
    refine gl_put (k := 17) dX1_counts_22 rfl (rfl : vwCl[1]? = some (RX1, TX1, 21)) in_X1 tyX1 tyX1_ok nmX1 (by decide) rfl q1037 (fun _ _ => ⟨rfl, rfl⟩) rfl ?_
    refine gl_mem (μ1 := mM o (mqS y ch (sum, nI 0, fillI s.2.2.1 0 (nI 0) 0, s.2.2.2))) (by rw [fill_0]; rfl) ?_
    refine gl_iconst (v := nI 0) dX1_counts_25 (by decide) ?_
    refine gl_istore_n dX1_counts_26 rfl rfl ?_
    refine gl_loop (fun k => [some (.ref 18), some (.int sum), some (.int (nI n)), some (.int (nI k))]) (fun k => mM o (mqS y ch (sum, nI 0, fillI s.2.2.1 0 (nI 0) k, s.2.2.2))) 49 ?_ ?_
    · intro k hk ih
      refine gl_iload_n dX1_counts_27 rfl ?_
      refine gl_bipush (v := nI 49) dX1_counts_28 (by decide) ?_
      refine gl_icmp_ge (tgt := 46) dX1_counts_30 (by decide) (fun h => absurd h (nI_ge hk (by omega))) (fun _ => ?_)
      refine gl_aload_n dX1_counts_33 rfl ?_
      refine gl_get (k := 16) dX1_counts_34 rfl (rfl : vwCl[1]? = some (RX1, TX1, 21)) in_X1 (by decide) q1036 rfl ?_
      refine gl_iload_n dX1_counts_37 rfl ?_
      refine gl_iconst (v := nI 0) dX1_counts_38 (by decide) ?_
      refine gl_iast (j := k) dX1_counts_39 rfl rfl (by omega) ?_
      refine gl_iinc (v := (nI (k + 1))) dX1_counts_40 rfl (nI_1 _) rfl rfl ?_
      refine gl_goto (tgt := 27) dX1_counts_43 (by decide) ?_
      refine gl_mem ?_ ih
      rw [← fill_s, Nat.zero_add]
      rfl
    · refine gl_iload_n dX1_counts_27 rfl ?_
      refine gl_bipush (v := nI 49) dX1_counts_28 (by decide) ?_
      refine gl_icmp_ge (tgt := 46) dX1_counts_30 (by decide) (fun _ => ?_) (fun h => absurd (nI_le (Nat.le_refl _) (by omega)) h)
      refine gl_iconst (v := nI 0) dX1_counts_46 (by decide) ?_
      refine gl_istore_n dX1_counts_47 rfl rfl ?_
      refine gl_loop (fun k => [some (.ref 18), some (.int sum), some (.int (nI n)), some (.int (nI k))]) (fun k => mM o (mqS y ch (sum, nI 0, fillI s.2.2.1 0 (nI 0) 49, bstF ch n s.2.2.2 k))) m ?_ ?_
      · intro k hk ih
        refine gl_iload_n dX1_counts_48 rfl ?_
        refine gl_aload_n dX1_counts_49 rfl ?_
        refine gl_get (k := 4) dX1_counts_50 rfl (rfl : vwCl[1]? = some (RX1, TX1, 21)) in_X1 (by decide) q1024 rfl ?_
        refine gl_iconst (v := nI 1) dX1_counts_53 (by decide) ?_
        refine gl_iald (j := 1) dX1_counts_54 rfl rfl (by omega) ?_
        refine gl_icmp_ge (tgt := 91) dX1_counts_55 (by decide) (fun h => absurd h ((by show ¬ y.2.2 23 1 ≤ nI k; rw [hL.q]; exact nI_ge hk (by omega)))) (fun _ => ?_)
        refine gl_aload_n dX1_counts_58 rfl ?_
        refine gl_get (k := 15) dX1_counts_59 rfl (rfl : vwCl[1]? = some (RX1, TX1, 21)) in_X1 (by decide) q1035 rfl ?_
        refine gl_iload_n dX1_counts_62 rfl ?_
        refine gl_aload_n dX1_counts_63 rfl ?_
        refine gl_get (k := 14) dX1_counts_64 rfl (rfl : vwCl[1]? = some (RX1, TX1, 21)) in_X1 (by decide) q1034 rfl ?_
        refine gl_iload_n dX1_counts_67 rfl ?_
        refine gl_iald (j := k) dX1_counts_68 rfl rfl (by omega) ?_
        refine gl_iload_n dX1_counts_69 rfl ?_
        refine gl_icmp_ge (tgt := 82) dX1_counts_70 (by decide) (fun h70 => ?_) (fun h70 => ?_)
        · have z : ¬ ch k < nI n := k2_nlt h70
          refine gl_bipush (v := (-9)) dX1_counts_82 (by decide) ?_
          refine gl_iast (j := k) dX1_counts_84 rfl rfl (by omega) ?_
          refine gl_iinc (v := (nI (k + 1))) dX1_counts_85 rfl (nI_1 _) rfl rfl ?_
          refine gl_goto (tgt := 48) dX1_counts_88 (by decide) ?_
          refine gl_mem ?_ ih
          simp only [bstF]
          rw [if_neg z]
          rfl
        · have z : ch k < nI n := k2_lt h70
          refine gl_aload_n dX1_counts_73 rfl ?_
          refine gl_get (k := 14) dX1_counts_74 rfl (rfl : vwCl[1]? = some (RX1, TX1, 21)) in_X1 (by decide) q1034 rfl ?_
          refine gl_iload_n dX1_counts_77 rfl ?_
          refine gl_iald (j := k) dX1_counts_78 rfl rfl (by omega) ?_
          refine gl_goto (tgt := 84) dX1_counts_79 (by decide) ?_
          refine gl_iast (j := k) dX1_counts_84 rfl rfl (by omega) ?_
          refine gl_iinc (v := (nI (k + 1))) dX1_counts_85 rfl (nI_1 _) rfl rfl ?_
          refine gl_goto (tgt := 48) dX1_counts_88 (by decide) ?_
          refine gl_mem ?_ ih
          simp only [bstF]
          rw [if_pos z]
          rfl
      · refine gl_iload_n dX1_counts_48 rfl ?_
        refine gl_aload_n dX1_counts_49 rfl ?_
        refine gl_get (k := 4) dX1_counts_50 rfl (rfl : vwCl[1]? = some (RX1, TX1, 21)) in_X1 (by decide) q1024 rfl ?_
        refine gl_iconst (v := nI 1) dX1_counts_53 (by decide) ?_
        refine gl_iald (j := 1) dX1_counts_54 rfl rfl (by omega) ?_
        refine gl_icmp_ge (tgt := 91) dX1_counts_55 (by decide) (fun _ => ?_) (fun h => absurd ((by show y.2.2 23 1 ≤ nI m; rw [hL.q]; exact nI_le (Nat.le_refl _) (by omega))) h)
        refine gl_drop 3 ?_
        exact s2 _
end MX

