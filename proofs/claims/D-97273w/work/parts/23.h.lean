/-! the model reads whole texts; libraries laid, kept -/
set_option maxRecDepth 100000
def mx (a : Nat) : Nat := if a < 2 then 7 else if a < 3 then 0 else if a < 10 then 5 else if a < 17 then 9 else if a < 24 then 3 else if a < 31 then 9 else if a < 38 then 5 else 9
/-- a library being read is in order -/
def okr (rd : Nat → Int32) : Prop := (∀ a, a < 59 → ∃ k, k ≤ mx a ∧ rd a = nI k) ∧ ∀ a, 59 ≤ a → a < 73 → rd a = -9
theorem okr_upd {rd : Nat → Int32} {a k : Nat} (h : okr rd) (ha : a < 59) (hk : k ≤ mx a) : okr (upd rd a (nI k)) := by
  refine ⟨fun b hb => ?_, fun b h1 h2 => ?_⟩
  · by_cases e : b = a
    · rw [e, pk_us]; exact ⟨k, hk, rfl⟩
    · rw [pk_un e]; exact h.1 b hb
  · rw [pk_un (by omega)]; exact h.2 b h1 h2
theorem mx9 (a : Nat) : mx a ≤ 9 := by
  unfold mx
  repeat' split
  all_goals omega
/-- a figure read -/
theorem tk_t {g : Nat → Int32} {s : Nat} {u : PS} {a lo hi : Nat} (hl : lo < 100) (hh : hi < 100) (h : (tk g s u a (nI lo) (nI hi)).1 = true) : u.1 < s ∧ ∃ k, lo ≤ k ∧ k ≤ hi ∧ tk g s u a (nI lo) (nI hi) = (true, u.1 + 1, upd u.2 a (nI k)) := by
  unfold tk at h ⊢
  by_cases q : inR (bt g s u.1 - nI 48) (nI lo) (nI hi) = true
  · rw [if_pos q]
    obtain ⟨k, h1, h2, h3⟩ := inR_nat (by omega) (by omega) q
    refine ⟨?_, k, h1, h2, by rw [h3]⟩
    rcases Nat.lt_or_ge u.1 s with z | z
    · exact z
    · exfalso
      unfold bt at h3
      rw [if_neg (by omega)] at h3
      have := congrArg Int32.toInt h3
      rw [nI_toInt (by omega)] at this
      have e : (-1000 - nI 48 : Int32).toInt = -1048 := by decide
      omega
  · rw [if_neg q] at h; cases h
theorem thn_1 {r : Bool × PS} {f : PS → Bool × PS} (h : (thn r f).1 = true) : r.1 = true ∧ thn r f = f r.2 := by
  unfold thn at h ⊢
  by_cases q : r.1 = true
  · rw [if_pos q] at h ⊢; exact ⟨q, rfl⟩
  · rw [if_neg q] at h; exact absurd h q
theorem knd_ok {c : Int32} (h : ¬ knd c < 0) : ∃ k, k ≤ 5 ∧ knd c = nI k := by
  unfold knd at h ⊢
  repeat' split
  · exact ⟨0, by omega, rfl⟩
  · exact ⟨1, by omega, rfl⟩
  · exact ⟨2, by omega, rfl⟩
  · exact ⟨3, by omega, rfl⟩
  · exact ⟨4, by omega, rfl⟩
  · exact ⟨5, by omega, rfl⟩
  · simp_all
theorem okr.c {rd : Nat → Int32} (h : okr rd) : ∃ k, k ≤ 7 ∧ rd 0 = nI k := h.1 0 (by omega)
theorem okr.q {rd : Nat → Int32} (h : okr rd) : ∃ k, k ≤ 7 ∧ rd 1 = nI k := h.1 1 (by omega)
theorem tc_ok {g : Nat → Int32} {s : Nat} {u : PS} (hu : okr u.2) (h : (tc g s u).1 = true) : u.1 < (tc g s u).2.1 ∧ (tc g s u).2.1 ≤ s ∧ okr (tc g s u).2.2 := by
  obtain ⟨c, hc, ec⟩ := hu.c
  unfold tc at h ⊢
  by_cases q : knd (bt g s u.1) < 0 ∨ u.2 0 = nI 7 ∨ 0 < u.2 1
  · rw [if_pos q] at h; cases h
  · rw [if_neg q] at h ⊢
    have q1 : ¬ knd (bt g s u.1) < 0 := fun z => q (Or.inl z)
    have q2 : ¬ u.2 0 = nI 7 := fun z => q (Or.inr (Or.inl z))
    have hc7 : c < 7 := by
      rcases Nat.lt_or_ge c 7 with z | z
      · exact z
      · exact absurd (by rw [ec]; congr 1; omega) q2
    obtain ⟨kd, hkd, ek⟩ := knd_ok q1
    rw [ec, ix_nI (by omega), ek, nI_add] at h ⊢
    obtain ⟨a1, b1⟩ := thn_1 h
    rw [b1] at h ⊢
    obtain ⟨a2, b2⟩ := thn_1 a1
    rw [b2] at a1 h ⊢
    obtain ⟨z1, k1, x1, y1, e1⟩ := tk_t (by omega) (by omega) a2
    rw [e1] at a1 h ⊢
    obtain ⟨z2, k2, x2, y2, e2⟩ := tk_t (by omega) (by omega) a1
    rw [e2] at h ⊢
    obtain ⟨z3, k3, x3, y3, e3⟩ := tk_t (by omega) (by omega) h
    rw [e3]
    dsimp only at z3 ⊢
    refine ⟨by omega, by omega, ?_⟩
    refine okr_upd (okr_upd (okr_upd (okr_upd (okr_upd hu (by omega) ?_) (by omega) ?_) (by omega) ?_) (by omega) ?_) (by omega) ?_
    all_goals (unfold mx; (repeat' split) <;> omega)
theorem tq_ok {g : Nat → Int32} {s : Nat} {u : PS} (hu : okr u.2) (h : (tq g s u).1 = true) : u.1 < (tq g s u).2.1 ∧ (tq g s u).2.1 ≤ s ∧ okr (tq g s u).2.2 := by
  obtain ⟨c, hc, ec⟩ := hu.q
  unfold tq at h ⊢
  by_cases q : u.2 0 = 0 ∨ u.2 1 = nI 7
  · rw [if_pos q] at h; cases h
  · rw [if_neg q] at h ⊢
    have q2 : ¬ u.2 1 = nI 7 := fun z => q (Or.inr z)
    have hc7 : c < 7 := by
      rcases Nat.lt_or_ge c 7 with z | z
      · exact z
      · exact absurd (by rw [ec]; congr 1; omega) q2
    rw [ec, ix_nI (by omega), nI_add] at h ⊢
    obtain ⟨a0, b0⟩ := thn_1 h
    rw [b0] at h ⊢
    obtain ⟨a1, b1⟩ := thn_1 a0
    rw [b1] at a0 h ⊢
    obtain ⟨a2, b2⟩ := thn_1 a1
    rw [b2] at a1 a0 h ⊢
    obtain ⟨z1, k1, x1, y1, e1⟩ := tk_t (by omega) (by omega) a2
    rw [e1] at a1 a0 h ⊢
    obtain ⟨z2, k2, x2, y2, e2⟩ := tk_t (by omega) (by omega) a1
    rw [e2] at a0 h ⊢
    dsimp only at a0 h ⊢
    rw [pk_us] at a0 h ⊢
    obtain ⟨z3, k3, x3, y3, e3⟩ := tk_t (by omega) (by omega) a0
    rw [e3] at h ⊢
    obtain ⟨z4, k4, x4, y4, e4⟩ := tk_t (by omega) (by omega) h
    rw [e4]
    dsimp only at z4 ⊢
    refine ⟨by omega, by omega, ?_⟩
    refine okr_upd (okr_upd (okr_upd (okr_upd (okr_upd hu (by omega) ?_) (by omega) ?_) (by omega) ?_) (by omega) ?_) (by omega) ?_
    all_goals (unfold mx; (repeat' split) <;> omega)
def rdl (g : Nat → Int32) (s : Nat) : Nat → PS → Bool × PS
  | 0, u => (true, u)
  | f + 1, u => if u.1 < s then (if bt g s u.1 = nI 32 then rdl g s f (u.1 + 1, u.2) else if (if bt g s u.1 = nI 113 then tq g s u else tc g s u).1 then rdl g s f (if bt g s u.1 = nI 113 then tq g s u else tc g s u).2 else (if bt g s u.1 = nI 113 then tq g s u else tc g s u)) else (true, u)
def rdA (r : Bool × PS) : Int32 := if r.1 then (if r.2.2 0 = 0 then nI r.2.1 else -9) else nI r.2.1
def blk (f : Nat → Int32) (k : Nat) : Nat → Int32 := fun p => if p < k then (if inR (nI p) 59 72 then -9 else nI 0) else f p
theorem blk_0 (f : Nat → Int32) : blk f 0 = f := by
  funext p
  exact if_neg (by omega)
theorem blk_s (f : Nat → Int32) (k : Nat) : upd (blk f k) k (if inR (nI k) 59 72 then -9 else nI 0) = blk f (k + 1) := by
  funext p
  simp only [blk, upd]
  by_cases h : p = k
  · rw [if_pos h, h, if_pos (show k < k + 1 by omega)]
  · rw [if_neg h]
    by_cases h2 : p < k
    · rw [if_pos h2, if_pos (show p < k + 1 by omega)]
    · rw [if_neg h2, if_neg (show ¬ p < k + 1 by omega)]
theorem blk_ok (f : Nat → Int32) : okr (blk f 393) := by
  refine ⟨fun a ha => ⟨0, Nat.zero_le _, ?_⟩, fun a h1 h2 => ?_⟩
  · unfold blk
    rw [if_pos (by omega), if_neg]
    intro q
    obtain ⟨k, x1, x2, x3⟩ := inR_nat (a := 59) (b := 72) (by omega) (by omega) q
    have := (nI_eq (by omega) (by omega)).mp x3
    omega
  · unfold blk
    rw [if_pos (by omega), if_pos]
    simp only [inR, Bool.and_eq_true, decide_eq_true_eq]
    exact ⟨nI_le (a := 59) h1 (by omega), nI_le (b := 72) (by omega) (by omega)⟩
def rdR (y : MY) (x s : Nat) : Bool × PS := rdl (tg y x) s s (0, blk (y.2.2 27) 393)
section MU
variable (L : Nat) (o : OY) (y : MY)
theorem m_reads (x s : Nat) (hx : x < 4) (hs : s ≤ 80) (e : y.2.2 21 x = nI s) : Ct yX1_reads gX1_reads (L + 13) 0 0 [.ref 18, .int (nI x)] (mM o y) (Rt (some (.int (rdA (rdR y x s)))) (mM o (rdS y (rdR y x s).2))) := by
  refine Ct.of rfl rfl rfl rfl rfl ?_
  refine gl_iconst (v := nI 0) dX1_reads_0 (by decide) ?_
  refine gl_istore_n dX1_reads_1 rfl rfl ?_
  refine gl_mem (μ1 := mM o (sA y 27 (blk (y.2.2 27) 0))) (by rw [blk_0]; rfl) ?_
  refine gl_loop (fun k => [some (.ref 18), some (.int (nI x)), some (.int (nI k))]) (fun k => mM o (sA y 27 (blk (y.2.2 27) k))) 393 ?_ ?_
  · intro k hk ih
    refine gl_iload_n dX1_reads_2 rfl ?_
    refine gl_sipush (v := nI 393) dX1_reads_3 (by decide) ?_
    refine gl_icmp_ge (tgt := 41) dX1_reads_6 (by decide) (fun h => absurd h (nI_ge hk (by omega))) (fun _ => ?_)
    refine gl_aload_n dX1_reads_9 rfl ?_
    refine gl_get (k := 12) dX1_reads_10 rfl (rfl : vwCl[1]? = some (RX1, TX1, 21)) in_X1 (by decide) q1032 rfl ?_
    refine gl_iload_n dX1_reads_13 rfl ?_
    refine gl_iload_n dX1_reads_14 rfl ?_
    refine gl_i2l dX1_reads_15 ?_
    refine gl_ldc2 (v := 59) q1144 dX1_reads_16 ?_
    refine gl_ldc2 (v := 72) q1145 dX1_reads_19 ?_
    refine gl_callS (m_in_i L _ _ 59 72 rfl rfl) dX1_reads_22 q1093 q1094 q75 q1095 rfl hX1_in rfl rfl (rmOk (by omega) rfl) ⟨by first | exact Nat.le_refl _ | exact Nat.zero_le _ | decide | (dsimp only [rm]; omega), by first | exact Nat.le_refl _ | exact Nat.zero_le _ | decide | (dsimp only [rm]; omega)⟩ (rt1 ?_)
    refine gl_if_eq (tgt := 33) dX1_reads_25 (by decide) (fun h => ?_) (fun h => ?_)
    · refine gl_iconst (v := nI 0) dX1_reads_33 (by decide) ?_
      refine gl_iast (j := k) dX1_reads_34 rfl rfl (by omega) ?_
      refine gl_mem (μ1 := mM o (sA y 27 (blk (y.2.2 27) (k + 1)))) (by rw [← blk_s, if_neg (by simp [bI_fa h])]; rfl) ?_
      refine gl_iinc (v := (nI (k + 1))) dX1_reads_35 rfl (nI_1 _) rfl rfl ?_
      refine gl_goto (tgt := 2) dX1_reads_38 (by decide) ?_
      exact ih
    · refine gl_bipush (v := (-9)) dX1_reads_28 (by decide) ?_
      refine gl_goto (tgt := 34) dX1_reads_30 (by decide) ?_
      refine gl_iast (j := k) dX1_reads_34 rfl rfl (by omega) ?_
      refine gl_mem (μ1 := mM o (sA y 27 (blk (y.2.2 27) (k + 1)))) (by rw [← blk_s, if_pos (bI_tr h)]; rfl) ?_
      refine gl_iinc (v := (nI (k + 1))) dX1_reads_35 rfl (nI_1 _) rfl rfl ?_
      refine gl_goto (tgt := 2) dX1_reads_38 (by decide) ?_
      exact ih
  · refine gl_iload_n dX1_reads_2 rfl ?_
    refine gl_sipush (v := nI 393) dX1_reads_3 (by decide) ?_
    refine gl_icmp_ge (tgt := 41) dX1_reads_6 (by decide) (fun _ => ?_) (fun h => absurd (nI_le (Nat.le_refl _) (by omega)) h)
    refine gl_aload_n dX1_reads_41 rfl ?_
    refine gl_iconst (v := nI 0) dX1_reads_42 (by decide) ?_
    refine gl_put (k := 13) dX1_reads_43 rfl (rfl : vwCl[1]? = some (RX1, TX1, 21)) in_X1 tyX1 tyX1_ok nmX1 (by decide) rfl q1033 (fun _ _ => ⟨rfl, rfl⟩) rfl ?_
    refine gl_mem (μ1 := mM o (rdS y (0, blk (y.2.2 27) 393))) rfl ?_
    refine gl_drop 2 ?_
    have hok := blk_ok (y.2.2 27)
    unfold rdR
    generalize blk (y.2.2 27) 393 = rd0 at hok ⊢
    have fin : ∀ u : PS, ¬ u.1 < s → u.1 ≤ s → GL gX1_reads (rm (L + 13) 0 0) (Rt (some (.int (rdA (true, u)))) (mM o (rdS y u))) 0 0 46 [some (.ref 18), some (.int (nI x)), none] [] (mM o (rdS y u)) := by
      intro u h1 h2
      refine gl_aload_n dX1_reads_46 rfl ?_
      refine gl_get (k := 13) dX1_reads_47 rfl (rfl : vwCl[1]? = some (RX1, TX1, 21)) in_X1 (by decide) q1033 rfl ?_
      refine gl_aload_n dX1_reads_50 rfl ?_
      refine gl_get (k := 2) dX1_reads_51 rfl (rfl : vwCl[1]? = some (RX1, TX1, 21)) in_X1 (by decide) q1022 rfl ?_
      refine gl_iload_n dX1_reads_54 rfl ?_
      refine gl_iald (j := x) dX1_reads_55 rfl rfl (by omega) ?_
      refine gl_icmp_ge (tgt := 116) dX1_reads_56 (by decide) (fun _ => ?_) (fun h => absurd ((by show y.2.2 21 x ≤ nI u.1; rw [e]; exact nI_le (by omega) (by omega))) h)
      refine gl_aload_n dX1_reads_116 rfl ?_
      refine gl_get (k := 12) dX1_reads_117 rfl (rfl : vwCl[1]? = some (RX1, TX1, 21)) in_X1 (by decide) q1032 rfl ?_
      refine gl_iconst (v := nI 0) dX1_reads_120 (by decide) ?_
      refine gl_iald (j := 0) dX1_reads_121 rfl rfl (by omega) ?_
      refine gl_if_ne (tgt := 132) dX1_reads_122 (by decide) (fun h122 => ?_) (fun h122 => ?_)
      · refine gl_bipush (v := (-9)) dX1_reads_132 (by decide) ?_
        exact gl_iret dX1_reads_134 rfl ⟨by simp only [rdA, if_true]; rw [if_neg (show ¬ u.2 0 = 0 from h122)], rfl⟩
      · refine gl_aload_n dX1_reads_125 rfl ?_
        refine gl_get (k := 13) dX1_reads_126 rfl (rfl : vwCl[1]? = some (RX1, TX1, 21)) in_X1 (by decide) q1033 rfl ?_
        refine gl_goto (tgt := 134) dX1_reads_129 (by decide) ?_
        exact gl_iret dX1_reads_134 rfl ⟨by simp only [rdA, if_true]; rw [if_pos (show u.2 0 = 0 from h122)]; rfl, rfl⟩
    have key : ∀ (f : Nat) (u : PS), okr u.2 → u.1 ≤ s → s - u.1 ≤ f → GL gX1_reads (rm (L + 13) 0 0) (Rt (some (.int (rdA (rdl (tg y x) s f u)))) (mM o (rdS y (rdl (tg y x) s f u).2))) 0 0 46 [some (.ref 18), some (.int (nI x)), none] [] (mM o (rdS y u)) := by
      intro f
      induction f with
      | zero =>
        intro u hu h1 h2
        exact fin u (by omega) h1
      | succ f ih =>
        intro u hu h1 h2
        unfold rdl
        by_cases hps : u.1 < s
        · rw [if_pos hps]
          refine gl_aload_n dX1_reads_46 rfl ?_
          refine gl_get (k := 13) dX1_reads_47 rfl (rfl : vwCl[1]? = some (RX1, TX1, 21)) in_X1 (by decide) q1033 rfl ?_
          refine gl_aload_n dX1_reads_50 rfl ?_
          refine gl_get (k := 2) dX1_reads_51 rfl (rfl : vwCl[1]? = some (RX1, TX1, 21)) in_X1 (by decide) q1022 rfl ?_
          refine gl_iload_n dX1_reads_54 rfl ?_
          refine gl_iald (j := x) dX1_reads_55 rfl rfl (by omega) ?_
          refine gl_icmp_ge (tgt := 116) dX1_reads_56 (by decide) (fun h => absurd h ((by show ¬ y.2.2 21 x ≤ nI u.1; rw [e]; exact nI_ge hps (by omega)))) (fun _ => ?_)
          refine gl_aload_n dX1_reads_59 rfl ?_
          refine gl_iload_n dX1_reads_60 rfl ?_
          refine gl_callV (m_byteAt L o y x s hx hs e u (by omega)) dX1_reads_61 q1146 q1148 qs47 q75 q1149 rfl hX1_byteAt rfl (rfl : vwCl[1]? = some (RX1, TX1, 21)) rfl rfl (rmOk (by omega) rfl) ⟨by first | exact Nat.le_refl _ | exact Nat.zero_le _ | decide | (dsimp only [rm]; omega), by first | exact Nat.le_refl _ | exact Nat.zero_le _ | decide | (dsimp only [rm]; omega)⟩ (rt1 ?_)
          refine gl_bipush (v := nI 32) dX1_reads_64 (by decide) ?_
          refine gl_icmp_ne (tgt := 82) dX1_reads_66 (by decide) (fun h66 => ?_) (fun h66 => ?_)
          · rw [if_neg h66]
            refine gl_aload_n dX1_reads_82 rfl ?_
            refine gl_iload_n dX1_reads_83 rfl ?_
            refine gl_callV (m_byteAt L o y x s hx hs e u (by omega)) dX1_reads_84 q1146 q1148 qs47 q75 q1149 rfl hX1_byteAt rfl (rfl : vwCl[1]? = some (RX1, TX1, 21)) rfl rfl (rmOk (by omega) rfl) ⟨by first | exact Nat.le_refl _ | exact Nat.zero_le _ | decide | (dsimp only [rm]; omega), by first | exact Nat.le_refl _ | exact Nat.zero_le _ | decide | (dsimp only [rm]; omega)⟩ (rt1 ?_)
            refine gl_bipush (v := nI 113) dX1_reads_87 (by decide) ?_
            refine gl_icmp_ne (tgt := 103) dX1_reads_89 (by decide) (fun h89 => ?_) (fun h89 => ?_)
            · rw [if_neg h89]
              obtain ⟨c, hc, ec⟩ := hu.c
              refine gl_aload_n dX1_reads_103 rfl ?_
              refine gl_iload_n dX1_reads_104 rfl ?_
              refine gl_callV (m_takesCard L o y x s hx hs e u (by omega) c hc ec) dX1_reads_105 q1158 q1160 qs50 q75 q1161 rfl hX1_takesCard rfl (rfl : vwCl[1]? = some (RX1, TX1, 21)) rfl rfl (rmOk (by omega) rfl) ⟨by first | exact Nat.le_refl _ | exact Nat.zero_le _ | decide | (dsimp only [rm]; omega), by first | exact Nat.le_refl _ | exact Nat.zero_le _ | decide | (dsimp only [rm]; omega)⟩ (rt1 ?_)
              refine gl_if_ne (tgt := 46) dX1_reads_108 (by decide) (fun h => ?_) (fun h => ?_)
              · have ht := bI_tr h
                obtain ⟨t1, t2, t3⟩ := tc_ok hu ht
                rw [if_pos ht]
                exact ih _ t3 t2 (by omega)
              · rw [if_neg (by simp [bI_fa h])]
                refine gl_aload_n dX1_reads_111 rfl ?_
                refine gl_get (k := 13) dX1_reads_112 rfl (rfl : vwCl[1]? = some (RX1, TX1, 21)) in_X1 (by decide) q1033 rfl ?_
                exact gl_iret dX1_reads_115 rfl ⟨by simp only [rdA]; rw [if_neg (by simp [bI_fa h])]; rfl, rfl⟩
            · rw [if_pos h89]
              obtain ⟨c, hc, ec⟩ := hu.q
              refine gl_aload_n dX1_reads_92 rfl ?_
              refine gl_iload_n dX1_reads_93 rfl ?_
              refine gl_callV (m_takesQuestion L o y x s hx hs e u (by omega) c hc ec) dX1_reads_94 q1150 q1152 qs48 q75 q1153 rfl hX1_takesQuestion rfl (rfl : vwCl[1]? = some (RX1, TX1, 21)) rfl rfl (rmOk (by omega) rfl) ⟨by first | exact Nat.le_refl _ | exact Nat.zero_le _ | decide | (dsimp only [rm]; omega), by first | exact Nat.le_refl _ | exact Nat.zero_le _ | decide | (dsimp only [rm]; omega)⟩ (rt1 ?_)
              refine gl_if_eq (tgt := 111) dX1_reads_97 (by decide) (fun h => ?_) (fun h => ?_)
              · rw [if_neg (by simp [bI_fa h])]
                refine gl_aload_n dX1_reads_111 rfl ?_
                refine gl_get (k := 13) dX1_reads_112 rfl (rfl : vwCl[1]? = some (RX1, TX1, 21)) in_X1 (by decide) q1033 rfl ?_
                exact gl_iret dX1_reads_115 rfl ⟨by simp only [rdA]; rw [if_neg (by simp [bI_fa h])]; rfl, rfl⟩
              · have ht := bI_tr h
                obtain ⟨t1, t2, t3⟩ := tq_ok hu ht
                rw [if_pos ht]
                refine gl_goto (tgt := 46) dX1_reads_100 (by decide) ?_
                exact ih _ t3 t2 (by omega)
          · rw [if_pos h66]
            refine gl_aload_n dX1_reads_69 rfl ?_
            refine gl_dup dX1_reads_70 rfl ?_
            refine gl_get (k := 13) dX1_reads_71 rfl (rfl : vwCl[1]? = some (RX1, TX1, 21)) in_X1 (by decide) q1033 rfl ?_
            refine gl_iconst (v := nI 1) dX1_reads_74 (by decide) ?_
            refine gl_iadd dX1_reads_75 ?_
            refine gl_put (k := 13) dX1_reads_76 rfl (rfl : vwCl[1]? = some (RX1, TX1, 21)) in_X1 tyX1 tyX1_ok nmX1 (by decide) rfl q1033 (fun _ _ => ⟨rfl, rfl⟩) rfl ?_
            refine gl_goto (tgt := 46) dX1_reads_79 (by decide) ?_
            refine gl_mem (μ1 := mM o (rdS y (u.1 + 1, u.2))) (by show _ = mM o (sI (sA y 27 u.2) 13 (nI (u.1 + 1))); rw [← nI_add]; rfl) ?_
            exact ih (u.1 + 1, u.2) hu (by dsimp only; omega) (by dsimp only; omega)
        · rw [if_neg hps]
          exact fin u hps h1
    exact key s (0, rd0) hok (Nat.zero_le _) (by dsimp only; omega)
end MU

