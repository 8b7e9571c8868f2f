/-! matchings: the model's public methods -/
set_option maxRecDepth 100000
section MZ
variable (L : Nat) (o : OY) (y : MY) {n m t : Nat}
def stp {σ : Type} (may : Nat → Nat → Bool) (wt : Nat → Int32) (n : Nat) (V : (Nat → Int32) → Int32 → σ → σ) (r q : Nat) (used : Nat → Bool) (ch : Nat → Int32) (sum : Int32) : Nat → σ → σ := fun c u => if may q c && !used c then wk may wt n V r (q + 1) (upB used c true) (upd ch q (nI c)) (sum + wt q) u else u
theorem wk_s {σ : Type} (may : Nat → Nat → Bool) (wt : Nat → Int32) (n : Nat) (V : (Nat → Int32) → Int32 → σ → σ) (r q : Nat) (used : Nat → Bool) (ch : Nat → Int32) (sum : Int32) (s : σ) : wk may wt n V (r + 1) q used ch sum s = wk may wt n V r (q + 1) used (upd ch q (nI n)) sum (it (stp may wt n V r q used ch sum) s n) := rfl
theorem up_agree {A ch : Nat → Int32} {q : Nat} {v : Int32} (h : ∀ j, j < q → A j = ch j) : ∀ j, j < q + 1 → upd A q v j = upd ch q v j := by
  intro j hj
  by_cases e : j = q
  · rw [e, pk_us, pk_us]
  · rw [pk_un e, pk_un e]; exact h j (by omega)
theorem up_rng {ch : Nat → Int32} {q n c : Nat} (hc : c ≤ n) (h : ∀ j, j < q → ∃ c, c ≤ n ∧ ch j = nI c) : ∀ j, j < q + 1 → ∃ d, d ≤ n ∧ upd ch q (nI c) j = nI d := by
  intro j hj
  by_cases e : j = q
  · rw [e]; exact ⟨c, hc, by rw [pk_us]⟩
  · obtain ⟨d, h1, h2⟩ := h j (by omega)
    exact ⟨d, h1, by rw [pk_un e]; exact h2⟩
theorem m_enter (hL : Lb (y.2.2 23) n m t) (b : Bool) (K : Option Value → Mem → Prop) : ∀ (r q : Nat), q + r = m → ∀ (used : Nat → Bool) (ch : Nat → Int32) (sum : Int32) (s : QS) (A : Nat → Int32), (∀ j, j < q → A j = ch j) → (∀ j, j < q → ∃ c, c ≤ n ∧ ch j = nI c) → (0 < r → A q = -1) → (∀ A', (∀ j, j < q → A' j = ch j) → GL gX1_layMatchings (rm (L + 14) 0 0) K 0 0 35 (lcM n m b (nI q + Int32.ofInt (-1)) (orI used n) sum) [] (mM o (mqS y A' (wk (mayB (y.2.2 23) m) (wtI (y.2.2 23) b) n (vis n m) r q used ch sum s)))) → GL gX1_layMatchings (rm (L + 14) 0 0) K 0 0 35 (lcM n m b (nI q) (orI used n) sum) [] (mM o (mqS y A s)) := by
  have h7 := hL.c7
  have h7q := hL.q7
  intro r
  induction r with
  | zero =>
    intro q hq used ch sum s A hA hch _ k
    have eq : q = m := by omega
    subst eq
    refine gl_iload dX1_layMatchings_35 rfl ?_
    refine gl_if_lt (tgt := 234) dX1_layMatchings_37 (by decide) (fun h => absurd h (nI_pos (by omega))) (fun _ => ?_)
    refine gl_iload dX1_layMatchings_40 rfl ?_
    refine gl_iload_n dX1_layMatchings_42 rfl ?_
    refine gl_icmp_ne (tgt := 58) dX1_layMatchings_43 (by decide) (fun h => absurd (rfl) h) (fun _ => ?_)
    refine gl_aload_n dX1_layMatchings_46 rfl ?_
    refine gl_iload dX1_layMatchings_47 rfl ?_
    refine gl_callV (m_counts L o y hL A (fun j hj => by obtain ⟨c, h1, h2⟩ := hch j hj; exact ⟨c, h1, (hA j hj).trans h2⟩) s sum) dX1_layMatchings_49 q1289 q1291 qs65 q75 q1292 rfl hX1_counts rfl (rfl : vwCl[1]? = some (RX1, TX1, 21)) rfl rfl (rmOk (by omega) rfl) ⟨by first | exact Nat.le_refl _ | exact Nat.zero_le _ | decide | (dsimp only [rm]; omega), by first | exact Nat.le_refl _ | exact Nat.zero_le _ | decide | (dsimp only [rm]; omega)⟩ (rt1 ?_)
    rw [vis_eq hA]
    refine gl_iinc dX1_layMatchings_52 rfl rfl rfl rfl ?_
    refine gl_goto (tgt := 35) dX1_layMatchings_55 (by decide) ?_
    exact k A hA
  | succ r ih =>
    intro q hq used ch sum s A hA hch hfr k
    have hqm : q < m := by omega
    have hq7 : q < 7 := by omega
    rw [wk_s] at k
    generalize hF : stp (mayB (y.2.2 23) m) (wtI (y.2.2 23) b) n (vis n m) r q used ch sum = F at k
    have go : ∀ (used' : Nat → Bool) (ch' : Nat → Int32) (sum' : Int32) (u : QS) (A : Nat → Int32), (∀ j, j < q + 1 → A j = ch' j) → (∀ j, j < q + 1 → ∃ c, c ≤ n ∧ ch' j = nI c) → (∀ A', (∀ j, j < q + 1 → A' j = ch' j) → GL gX1_layMatchings (rm (L + 14) 0 0) K 0 0 35 (lcM n m b (nI q) (orI used' n) sum') [] (mM o (mqS y A' (wk (mayB (y.2.2 23) m) (wtI (y.2.2 23) b) n (vis n m) r (q + 1) used' ch' sum' u)))) → GL gX1_layMatchings (rm (L + 14) 0 0) K 0 0 214 [some (.ref 18), some (.int (bI b)), some (.int (nI m)), some (.int (nI n)), some (.int (nI q)), some (.int (orI used' n)), some (.int sum'), none, none] [] (mM o (mqS y A u)) := by
      intro used' ch' sum' u A hA' hch' kk
      refine m_nx L o y hL b K q hqm used' sum' u A (fun z => ?_) (fun z => ?_)
      · exact ih (q + 1) (by omega) used' ch' sum' u A hA' hch' (fun z => by omega) (fun A' hA'' => by rw [nI_dec]; exact kk A' hA'')
      · exact ih (q + 1) (by omega) used' ch' sum' u (upd A (q + 1) (-1)) (fun j hj => by rw [pk_un (by omega)]; exact hA' j hj) hch' (fun _ => pk_us) (fun A' hA'' => by rw [nI_dec]; exact kk A' hA'')
    have tr : ∀ A, (∀ j, j < q → A j = ch j) → GL gX1_layMatchings (rm (L + 14) 0 0) K 0 0 121 (lcT n m b (nI q) (orI used n) sum (nI 0)) [] (mM o (mqS y A s)) := by
      refine dn (Q := fun c => ∀ A, (∀ j, j < q → A j = ch j) → GL gX1_layMatchings (rm (L + 14) 0 0) K 0 0 121 (lcT n m b (nI q) (orI used n) sum (nI c)) [] (mM o (mqS y A (it F s c)))) n ?_ ?_
      · intro c hc kc A hA
        refine gl_iload dX1_layMatchings_121 rfl ?_
        refine gl_iload_n dX1_layMatchings_123 rfl ?_
        refine gl_icmp_ge (tgt := 155) dX1_layMatchings_124 (by decide) (fun h => absurd h (nI_ge hc (by omega))) (fun _ => ?_)
        refine gl_iload dX1_layMatchings_127 rfl ?_
        refine gl_iload dX1_layMatchings_129 rfl ?_
        refine gl_ishr dX1_layMatchings_131 ?_
        refine gl_iconst (v := nI 1) dX1_layMatchings_132 (by decide) ?_
        refine gl_iand dX1_layMatchings_133 ?_
        refine gl_iconst (v := nI 1) dX1_layMatchings_134 (by decide) ?_
        refine gl_icmp_eq (tgt := 149) dX1_layMatchings_135 (by decide) (fun h135 => ?_) (fun h135 => ?_)
        · have hu : used c = true := by
            have := (bit_tst c (by omega) _).mp h135
            rw [bit_orI _ _ _ (by omega) (by omega)] at this
            simp at this
            exact this.2
          refine gl_iinc (v := (nI (c + 1))) dX1_layMatchings_149 rfl (nI_1 _) rfl rfl ?_
          refine gl_goto (tgt := 121) dX1_layMatchings_152 (by decide) ?_
          refine gl_mem ?_ (kc A hA)
          simp only [it]
          rw [← hF, stp, if_neg (by simp [hu])]
        · have hu : used c = false := by
            have := mt (bit_tst c (by omega) _).mpr h135
            rw [bit_orI _ _ _ (by omega) (by omega)] at this
            simpa [hc] using this
          refine gl_aload_n dX1_layMatchings_138 rfl ?_
          refine gl_iload dX1_layMatchings_139 rfl ?_
          refine gl_iload dX1_layMatchings_141 rfl ?_
          refine gl_callV (m_mayMatch L o (mqS y A (it F s c)) hL q c hq7 (by omega)) dX1_layMatchings_143 q1293 q1295 qs66 q75 q1296 rfl hX1_mayMatch rfl (rfl : vwCl[1]? = some (RX1, TX1, 21)) rfl rfl (rmOk (by omega) rfl) ⟨by first | exact Nat.le_refl _ | exact Nat.zero_le _ | decide | (dsimp only [rm]; omega), by first | exact Nat.le_refl _ | exact Nat.zero_le _ | decide | (dsimp only [rm]; omega)⟩ (rt1 ?_)
          refine gl_if_ne (tgt := 155) dX1_layMatchings_146 (by decide) (fun h146 => ?_) (fun h146 => ?_)
          · have hm : mayB (y.2.2 23) m q c = true := bI_tr h146
            refine m_fwd L o y hL b K q c hqm hc used sum (it F s c) A ?_
            refine go (upB used c true) (upd ch q (nI c)) _ _ _ (up_agree hA) (up_rng (by omega) hch) ?_
            intro A2 hA2
            refine m_back L o y hL b K q c hqm hc used hu sum _ A2 (by rw [hA2 q (by omega), pk_us]) ?_
            refine gl_mem ?_ (kc A2 (fun j hj => by have := hA2 j (by omega); rw [pk_un (by omega)] at this; exact this))
            simp only [it]
            rw [show F c (it F s c) = wk (mayB (y.2.2 23) m) (wtI (y.2.2 23) b) n (vis n m) r (q + 1) (upB used c true) (upd ch q (nI c)) (sum + wtI (y.2.2 23) b q) (it F s c) by rw [← hF, stp, if_pos (by simp [hu, hm])]]
          · have hm : mayB (y.2.2 23) m q c = false := bI_fa h146
            refine gl_iinc (v := (nI (c + 1))) dX1_layMatchings_149 rfl (nI_1 _) rfl rfl ?_
            refine gl_goto (tgt := 121) dX1_layMatchings_152 (by decide) ?_
            refine gl_mem ?_ (kc A hA)
            simp only [it]
            rw [show F c (it F s c) = it F s c by rw [← hF, stp, if_neg (by simp [hm])]]
      · intro A hA
        refine m_none L o y hL b K q hqm used sum _ A ?_
        refine go used (upd ch q (nI n)) sum _ (upd A q (nI n)) (up_agree hA) (up_rng (Nat.le_refl _) hch) ?_
        intro A2 hA2
        refine m_backN L o y hL b K q hqm used sum _ A2 (by rw [hA2 q (by omega), pk_us]) ?_
        exact k (upd A2 q (nI (n + 1))) (fun j hj => by rw [pk_un (by omega)]; have := hA2 j (by omega); rw [pk_un (by omega)] at this; exact this)
    exact m_fresh L o y hL b K q hqm used sum s A (hfr (by omega)) (tr A hA)
/-- what the matchings come to -/
def layQ (y : MY) (n m : Nat) (b : Bool) : QS := wk (mayB (y.2.2 23) m) (wtI (y.2.2 23) b) n (vis n m) m 0 (fun _ => false) (fun _ => 0) (nI 0) (-1, y.1 17, y.2.2 30, y.2.2 29)
theorem m_layM (hL : Lb (y.2.2 23) n m t) (b : Bool) : Ct yX1_layMatchings gX1_layMatchings (L + 14) 0 0 [.ref 18, .int (bI b)] (mM o y) (fun v μ => v = none ∧ ∃ A, μ = mM o (mqS y A (layQ y n m b))) := by
  refine Ct.of rfl rfl rfl rfl rfl ?_
  refine gl_aload_n dX1_layMatchings_0 rfl ?_
  refine gl_get (k := 4) dX1_layMatchings_1 rfl (rfl : vwCl[1]? = some (RX1, TX1, 21)) in_X1 (by decide) q1024 rfl ?_
  refine gl_iconst (v := nI 1) dX1_layMatchings_4 (by decide) ?_
  refine gl_iald (j := 1) dX1_layMatchings_5 rfl rfl (by omega) ?_
  refine gl_top (w := .int (nI m)) (by rw [hL.q]) ?_
  refine gl_istore_n dX1_layMatchings_6 rfl rfl ?_
  refine gl_aload_n dX1_layMatchings_7 rfl ?_
  refine gl_get (k := 4) dX1_layMatchings_8 rfl (rfl : vwCl[1]? = some (RX1, TX1, 21)) in_X1 (by decide) q1024 rfl ?_
  refine gl_iconst (v := nI 0) dX1_layMatchings_11 (by decide) ?_
  refine gl_iald (j := 0) dX1_layMatchings_12 rfl rfl (by omega) ?_
  refine gl_top (w := .int (nI n)) (by rw [hL.c]) ?_
  refine gl_istore_n dX1_layMatchings_13 rfl rfl ?_
  refine gl_aload_n dX1_layMatchings_14 rfl ?_
  refine gl_iconst (v := (-1)) dX1_layMatchings_15 (by decide) ?_
  refine gl_put (k := 18) dX1_layMatchings_16 rfl (rfl : vwCl[1]? = some (RX1, TX1, 21)) in_X1 tyX1 tyX1_ok nmX1 (by decide) rfl q1038 (fun _ _ => ⟨rfl, rfl⟩) rfl ?_
  refine gl_iconst (v := nI 0) dX1_layMatchings_19 (by decide) ?_
  refine gl_istore dX1_layMatchings_20 rfl rfl ?_
  refine gl_iconst (v := nI 0) dX1_layMatchings_22 (by decide) ?_
  refine gl_istore dX1_layMatchings_23 rfl rfl ?_
  refine gl_iconst (v := nI 0) dX1_layMatchings_25 (by decide) ?_
  refine gl_istore dX1_layMatchings_26 rfl rfl ?_
  refine gl_aload_n dX1_layMatchings_28 rfl ?_
  refine gl_get (k := 14) dX1_layMatchings_29 rfl (rfl : vwCl[1]? = some (RX1, TX1, 21)) in_X1 (by decide) q1034 rfl ?_
  refine gl_iconst (v := nI 0) dX1_layMatchings_32 (by decide) ?_
  refine gl_iconst (v := (-1)) dX1_layMatchings_33 (by decide) ?_
  refine gl_iast (j := 0) dX1_layMatchings_34 rfl rfl (by omega) ?_
  refine gl_mem (μ1 := mM o (mqS y (upd (y.2.2 28) 0 (-1)) (-1, y.1 17, y.2.2 30, y.2.2 29))) rfl ?_
  have z0 : orI (fun _ => false) n = nI 0 := by
    apply bit_ext
    intro i hi
    rw [bit_orI _ _ _ (by have := hL.c7; omega) hi, bit_0 i hi]
    simp
  refine gl_lcs (lc1 := lcM n m b (nI 0) (orI (fun _ => false) n) (nI 0)) (by rw [z0]; rfl) ?_
  refine m_enter L o y hL b _ m 0 (by omega) (fun _ => false) (fun _ => 0) (nI 0) _ _ (fun j hj => by omega) (fun j hj => by omega) (fun _ => pk_us) ?_
  intro A' _
  refine gl_iload dX1_layMatchings_35 rfl ?_
  refine gl_if_lt (tgt := 234) dX1_layMatchings_37 (by decide) (fun _ => ?_) (fun h => absurd ((by decide)) h)
  exact gl_vret dX1_layMatchings_234 rfl ⟨rfl, A', rfl⟩
end MZ

