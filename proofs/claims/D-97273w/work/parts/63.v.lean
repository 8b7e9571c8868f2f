/-! the component reads texts -/
set_option maxRecDepth 100000
/-- where it reads, cards, questions, what was read -/
abbrev RS : Type := Nat × Nat × Nat × (Nat → Int32) × (Nat → Int32)
def rsX (x : XY) (p : Nat) (s : RS) : XY := (fun k => if k = 14 then nI s.1 else if k = 15 then nI s.2.1 else if k = 17 then nI s.2.2.1 else x.1 k, x.2.1, fun k => if k = 9 then s.2.2.2.1 else if k = 10 then s.2.2.2.2 else x.2.2.1 k, x.2.2.2.1, some p)
def PR (s : RS) (u : PS) : Prop := s.1 = u.1 ∧ u.2 0 = nI s.2.1 ∧ u.2 1 = nI s.2.2.1 ∧ s.2.1 ≤ 7 ∧ s.2.2.1 ≤ 7 ∧ (∀ c, c < s.2.1 → knd (s.2.2.2.1 (4 * c)) = u.2 (3 + c) ∧ s.2.2.2.1 (4 * c + 1) = u.2 (10 + c) ∧ s.2.2.2.1 (4 * c + 2) = u.2 (17 + c) ∧ s.2.2.2.1 (4 * c + 3) = u.2 (24 + c)) ∧ ∀ q, q < s.2.2.1 → ∀ j, j < 4 → s.2.2.2.2 (4 * q + j) = u.2 (31 + 7 * j + q)
def sgn (g : Nat → Int32) (sz p : Nat) : Int32 := if p < sz then g p else -9
theorem sgn_in (g : Nat → Int32) (sz p : Nat) {lo hi : Nat} (hl : lo < 100) (hh : hi < 100) : inR (sgn g sz p - nI 48) (nI lo) (nI hi) = inR (bt g sz p - nI 48) (nI lo) (nI hi) := by
  unfold sgn bt
  by_cases h : p < sz
  · rw [if_pos h, if_pos h]
  · rw [if_neg h, if_neg h]
    have a : ∀ v : Int32, v.toInt < 0 → inR v (nI lo) (nI hi) = false := by
      intro v hv
      cases e : inR v (nI lo) (nI hi) with
      | false => rfl
      | true =>
        obtain ⟨k, -, hk, rfl⟩ := inR_nat (by omega) (by omega) e
        rw [nI_toInt (by omega)] at hv
        omega
    rw [a _ (by decide), a _ (by decide)]
theorem sgn_knd (g : Nat → Int32) (sz p : Nat) : knd (sgn g sz p) = knd (bt g sz p) := by
  unfold sgn bt
  by_cases h : p < sz
  · rw [if_pos h, if_pos h]
  · rw [if_neg h, if_neg h]
    decide
theorem x_isCardSign (L : Nat) (μ : Mem) (c : Int32) : Ct yX0_isCardSign gX0_isCardSign (L + 10) 0 0 [.int c] μ (Rt (some (.int (bI (!decide (knd c < 0))))) μ) := by
  refine Ct.of rfl rfl rfl rfl rfl ?_
  refine gl_iload_n dX0_isCardSign_0 rfl ?_
  refine gl_bipush (v := nI 110) dX0_isCardSign_1 (by decide) ?_
  refine gl_icmp_eq (tgt := 36) dX0_isCardSign_3 (by decide) (fun h3 => ?_) (fun h3 => ?_)
  · refine gl_iconst (v := nI 1) dX0_isCardSign_36 (by decide) ?_
    refine gl_goto (tgt := 41) dX0_isCardSign_37 (by decide) ?_
    exact gl_zret dX0_isCardSign_41 rfl (by decide) ⟨by first | (subst_vars; decide) | (rw [show knd c = -1 by unfold knd; rw [if_neg (show ¬ c = 110 from h3), if_neg (show ¬ c = 121 from h9), if_neg (show ¬ c = 112 from h15), if_neg (show ¬ c = 118 from h21), if_neg (show ¬ c = 116 from h27), if_neg (show ¬ c = 98 from h33)]]; decide), rfl⟩ (hc := by first | exact Nat.zero_le _ | (dsimp only [rm]; omega)) (hs := by first | exact Nat.zero_le _ | (dsimp only [rm]; omega))
  · refine gl_iload_n dX0_isCardSign_6 rfl ?_
    refine gl_bipush (v := nI 121) dX0_isCardSign_7 (by decide) ?_
    refine gl_icmp_eq (tgt := 36) dX0_isCardSign_9 (by decide) (fun h9 => ?_) (fun h9 => ?_)
    · refine gl_iconst (v := nI 1) dX0_isCardSign_36 (by decide) ?_
      refine gl_goto (tgt := 41) dX0_isCardSign_37 (by decide) ?_
      exact gl_zret dX0_isCardSign_41 rfl (by decide) ⟨by first | (subst_vars; decide) | (rw [show knd c = -1 by unfold knd; rw [if_neg (show ¬ c = 110 from h3), if_neg (show ¬ c = 121 from h9), if_neg (show ¬ c = 112 from h15), if_neg (show ¬ c = 118 from h21), if_neg (show ¬ c = 116 from h27), if_neg (show ¬ c = 98 from h33)]]; decide), rfl⟩ (hc := by first | exact Nat.zero_le _ | (dsimp only [rm]; omega)) (hs := by first | exact Nat.zero_le _ | (dsimp only [rm]; omega))
    · refine gl_iload_n dX0_isCardSign_12 rfl ?_
      refine gl_bipush (v := nI 112) dX0_isCardSign_13 (by decide) ?_
      refine gl_icmp_eq (tgt := 36) dX0_isCardSign_15 (by decide) (fun h15 => ?_) (fun h15 => ?_)
      · refine gl_iconst (v := nI 1) dX0_isCardSign_36 (by decide) ?_
        refine gl_goto (tgt := 41) dX0_isCardSign_37 (by decide) ?_
        exact gl_zret dX0_isCardSign_41 rfl (by decide) ⟨by first | (subst_vars; decide) | (rw [show knd c = -1 by unfold knd; rw [if_neg (show ¬ c = 110 from h3), if_neg (show ¬ c = 121 from h9), if_neg (show ¬ c = 112 from h15), if_neg (show ¬ c = 118 from h21), if_neg (show ¬ c = 116 from h27), if_neg (show ¬ c = 98 from h33)]]; decide), rfl⟩ (hc := by first | exact Nat.zero_le _ | (dsimp only [rm]; omega)) (hs := by first | exact Nat.zero_le _ | (dsimp only [rm]; omega))
      · refine gl_iload_n dX0_isCardSign_18 rfl ?_
        refine gl_bipush (v := nI 118) dX0_isCardSign_19 (by decide) ?_
        refine gl_icmp_eq (tgt := 36) dX0_isCardSign_21 (by decide) (fun h21 => ?_) (fun h21 => ?_)
        · refine gl_iconst (v := nI 1) dX0_isCardSign_36 (by decide) ?_
          refine gl_goto (tgt := 41) dX0_isCardSign_37 (by decide) ?_
          exact gl_zret dX0_isCardSign_41 rfl (by decide) ⟨by first | (subst_vars; decide) | (rw [show knd c = -1 by unfold knd; rw [if_neg (show ¬ c = 110 from h3), if_neg (show ¬ c = 121 from h9), if_neg (show ¬ c = 112 from h15), if_neg (show ¬ c = 118 from h21), if_neg (show ¬ c = 116 from h27), if_neg (show ¬ c = 98 from h33)]]; decide), rfl⟩ (hc := by first | exact Nat.zero_le _ | (dsimp only [rm]; omega)) (hs := by first | exact Nat.zero_le _ | (dsimp only [rm]; omega))
        · refine gl_iload_n dX0_isCardSign_24 rfl ?_
          refine gl_bipush (v := nI 116) dX0_isCardSign_25 (by decide) ?_
          refine gl_icmp_eq (tgt := 36) dX0_isCardSign_27 (by decide) (fun h27 => ?_) (fun h27 => ?_)
          · refine gl_iconst (v := nI 1) dX0_isCardSign_36 (by decide) ?_
            refine gl_goto (tgt := 41) dX0_isCardSign_37 (by decide) ?_
            exact gl_zret dX0_isCardSign_41 rfl (by decide) ⟨by first | (subst_vars; decide) | (rw [show knd c = -1 by unfold knd; rw [if_neg (show ¬ c = 110 from h3), if_neg (show ¬ c = 121 from h9), if_neg (show ¬ c = 112 from h15), if_neg (show ¬ c = 118 from h21), if_neg (show ¬ c = 116 from h27), if_neg (show ¬ c = 98 from h33)]]; decide), rfl⟩ (hc := by first | exact Nat.zero_le _ | (dsimp only [rm]; omega)) (hs := by first | exact Nat.zero_le _ | (dsimp only [rm]; omega))
          · refine gl_iload_n dX0_isCardSign_30 rfl ?_
            refine gl_bipush (v := nI 98) dX0_isCardSign_31 (by decide) ?_
            refine gl_icmp_ne (tgt := 40) dX0_isCardSign_33 (by decide) (fun h33 => ?_) (fun h33 => ?_)
            · refine gl_iconst (v := nI 0) dX0_isCardSign_40 (by decide) ?_
              exact gl_zret dX0_isCardSign_41 rfl (by decide) ⟨by first | (subst_vars; decide) | (rw [show knd c = -1 by unfold knd; rw [if_neg (show ¬ c = 110 from h3), if_neg (show ¬ c = 121 from h9), if_neg (show ¬ c = 112 from h15), if_neg (show ¬ c = 118 from h21), if_neg (show ¬ c = 116 from h27), if_neg (show ¬ c = 98 from h33)]]; decide), rfl⟩ (hc := by first | exact Nat.zero_le _ | (dsimp only [rm]; omega)) (hs := by first | exact Nat.zero_le _ | (dsimp only [rm]; omega))
            · refine gl_iconst (v := nI 1) dX0_isCardSign_36 (by decide) ?_
              refine gl_goto (tgt := 41) dX0_isCardSign_37 (by decide) ?_
              exact gl_zret dX0_isCardSign_41 rfl (by decide) ⟨by first | (subst_vars; decide) | (rw [show knd c = -1 by unfold knd; rw [if_neg (show ¬ c = 110 from h3), if_neg (show ¬ c = 121 from h9), if_neg (show ¬ c = 112 from h15), if_neg (show ¬ c = 118 from h21), if_neg (show ¬ c = 116 from h27), if_neg (show ¬ c = 98 from h33)]]; decide), rfl⟩ (hc := by first | exact Nat.zero_le _ | (dsimp only [rm]; omega)) (hs := by first | exact Nat.zero_le _ | (dsimp only [rm]; omega))
section XV
variable (L : Nat) {o : OX} {τ : Nat → Nat} {x : XY} {p tag sz : Nat} {f g : Nat → Int32}
theorem x_sign (hT : Own o τ p tag (.inl (1, sz, f))) (hf : ∀ i, i < sz → f i = g i) (hsz : sz ≤ 80) (s : RS) (hs : s.1 ≤ 200) : Ct yX0_sign gX0_sign (L + 10) 0 0 [.ref 1] (mX o (rsX x p s)) (Rt (some (.int (sgn g sz s.1))) (mX o (rsX x p s))) := by
  refine Ct.of rfl rfl rfl rfl rfl ?_
  unfold sgn
  refine gl_aload_n dX0_sign_0 rfl ?_
  refine gl_get (k := 14) dX0_sign_1 rfl (rfl : vwCl[0]? = some (RX0, TX0, 30)) in_X0 (by decide) q127 rfl ?_
  refine gl_aload_n dX0_sign_4 rfl ?_
  refine gl_get (k := 13) dX0_sign_5 rfl (rfl : vwCl[0]? = some (RX0, TX0, 30)) in_X0 (by decide) q126 rfl ?_
  refine gl_alen dX0_sign_8 hT.lk ?_
  by_cases hlt : s.1 < sz
  · rw [if_pos hlt]
    refine gl_icmp_ge (tgt := 24) dX0_sign_9 (by decide) (fun h => absurd h (nI_ge hlt (by omega))) (fun _ => ?_)
    refine gl_aload_n dX0_sign_12 rfl ?_
    refine gl_get (k := 13) dX0_sign_13 rfl (rfl : vwCl[0]? = some (RX0, TX0, 30)) in_X0 (by decide) q126 rfl ?_
    refine gl_aload_n dX0_sign_16 rfl ?_
    refine gl_get (k := 14) dX0_sign_17 rfl (rfl : vwCl[0]? = some (RX0, TX0, 30)) in_X0 (by decide) q127 rfl ?_
    refine gl_bald (j := s.1) dX0_sign_20 hT.lk rfl hlt ?_
    rw [hf s.1 hlt]
    refine gl_goto (tgt := 26) dX0_sign_21 (by decide) ?_
    exact gl_iret dX0_sign_26 rfl ⟨rfl, rfl⟩ (hc := by first | exact Nat.zero_le _ | (dsimp only [rm]; omega)) (hs := by first | exact Nat.zero_le _ | (dsimp only [rm]; omega))
  · rw [if_neg hlt]
    refine gl_icmp_ge (tgt := 24) dX0_sign_9 (by decide) (fun _ => ?_) (fun h => absurd (nI_le (by omega) (by omega)) h)
    refine gl_bipush (v := (-9)) dX0_sign_24 (by decide) ?_
    exact gl_iret dX0_sign_26 rfl ⟨rfl, rfl⟩ (hc := by first | exact Nat.zero_le _ | (dsimp only [rm]; omega)) (hs := by first | exact Nat.zero_le _ | (dsimp only [rm]; omega))
def rfP (o : OX) (x : XY) (p : Nat) (g : Nat → Int32) (sz lo hi : Nat) (s : RS) : Option Value → Mem → Prop := fun v μ => (inR (bt g sz s.1 - nI 48) (nI lo) (nI hi) = true ∧ v = some (.int (bt g sz s.1 - nI 48)) ∧ μ = mX o (rsX x p (s.1 + 1, s.2))) ∨ (inR (bt g sz s.1 - nI 48) (nI lo) (nI hi) = false ∧ v = some (.int (-9)) ∧ μ = mX o (rsX x p s))
theorem sgn_bt {g : Nat → Int32} {sz p lo hi : Nat} (hl : lo < 100) (hh : hi < 100) (h : inR (bt g sz p - nI 48) (nI lo) (nI hi) = true) : sgn g sz p = bt g sz p := by
  unfold sgn bt
  by_cases q : p < sz
  · rw [if_pos q, if_pos q]
  · exfalso
    unfold bt at h
    rw [if_neg q] at h
    obtain ⟨k, -, hk, e⟩ := inR_nat (by omega) (by omega) h
    have := congrArg Int32.toInt e
    rw [nI_toInt (by omega)] at this
    have e2 : (-1000 - nI 48 : Int32).toInt = -1048 := by decide
    omega
theorem x_readsFigure (hT : Own o τ p tag (.inl (1, sz, f))) (hf : ∀ i, i < sz → f i = g i) (hsz : sz ≤ 80) (s : RS) (hs : s.1 ≤ 200) (lo hi : Nat) (hl : lo < 100) (hh : hi < 100) : Ct yX0_readsFigure gX0_readsFigure (L + 11) 0 0 [.ref 1, .int (nI lo), .int (nI hi)] (mX o (rsX x p s)) (rfP o x p g sz lo hi s) := by
  refine Ct.of rfl rfl rfl rfl rfl ?_
  refine gl_aload_n dX0_readsFigure_0 rfl ?_
  refine gl_callV (x_sign L hT hf hsz s hs) dX0_readsFigure_1 q411 q413 qs5 q74 q414 rfl hX0_sign rfl (rfl : vwCl[0]? = some (RX0, TX0, 30)) rfl rfl (rmOk (by omega) rfl) ⟨by first | exact Nat.le_refl _ | exact Nat.zero_le _ | decide | (dsimp only [rm]; omega), by first | exact Nat.le_refl _ | exact Nat.zero_le _ | decide | (dsimp only [rm]; omega)⟩ (rt1 ?_)
  refine gl_bipush (v := nI 48) dX0_readsFigure_4 (by decide) ?_
  refine gl_isub dX0_readsFigure_6 ?_
  refine gl_istore_n dX0_readsFigure_7 rfl rfl ?_
  refine gl_iload_n dX0_readsFigure_8 rfl ?_
  refine gl_iload_n dX0_readsFigure_9 rfl ?_
  refine gl_iload_n dX0_readsFigure_10 rfl ?_
  refine gl_callS (x_isIn L _ _ _ _) dX0_readsFigure_11 q298 q299 q74 q300 rfl hX0_isIn rfl rfl (rmOk (by omega) rfl) ⟨by first | exact Nat.le_refl _ | exact Nat.zero_le _ | decide | (dsimp only [rm]; omega), by first | exact Nat.le_refl _ | exact Nat.zero_le _ | decide | (dsimp only [rm]; omega)⟩ (rt1 ?_)
  rw [sgn_in g sz s.1 hl hh]
  refine gl_if_ne (tgt := 20) dX0_readsFigure_14 (by decide) (fun h14 => ?_) (fun h14 => ?_)
  · have h := bI_tr h14
    refine gl_aload_n dX0_readsFigure_20 rfl ?_
    refine gl_dup dX0_readsFigure_21 rfl ?_
    refine gl_get (k := 14) dX0_readsFigure_22 rfl (rfl : vwCl[0]? = some (RX0, TX0, 30)) in_X0 (by decide) q127 rfl ?_
    refine gl_top (w := .int (nI s.1)) rfl ?_
    refine gl_iconst (v := nI 1) dX0_readsFigure_25 (by decide) ?_
    refine gl_iadd dX0_readsFigure_26 ?_
    rw [nI_add]
    refine gl_put (k := 14) dX0_readsFigure_27 rfl (rfl : vwCl[0]? = some (RX0, TX0, 30)) in_X0 tyX0 tyX0_ok nmX0 (by decide) rfl q127 (fun _ _ => ⟨rfl, rfl⟩) rfl ?_
    refine gl_mem (μ1 := mX o (rsX x p (s.1 + 1, s.2))) rfl ?_
    refine gl_iload_n dX0_readsFigure_30 rfl ?_
    exact gl_iret dX0_readsFigure_31 rfl (Or.inl ⟨h, by rw [sgn_bt hl hh h], rfl⟩) (hc := by first | exact Nat.zero_le _ | (dsimp only [rm]; omega)) (hs := by first | exact Nat.zero_le _ | (dsimp only [rm]; omega))
  · have h := bI_fa h14
    refine gl_bipush (v := (-9)) dX0_readsFigure_17 (by decide) ?_
    exact gl_iret dX0_readsFigure_19 rfl (Or.inr ⟨h, rfl, rfl⟩) (hc := by first | exact Nat.zero_le _ | (dsimp only [rm]; omega)) (hs := by first | exact Nat.zero_le _ | (dsimp only [rm]; omega))
theorem PR_card {u : PS} {c q : Nat} {rc ra : Nat → Int32} {ch v1 v2 v3 : Int32} {a : Nat} (ec : u.2 0 = nI c) (eq : u.2 1 = nI q) (hc : c < 7) (hq7 : q ≤ 7) (hC : ∀ d, d < c → knd (rc (4 * d)) = u.2 (3 + d) ∧ rc (4 * d + 1) = u.2 (10 + d) ∧ rc (4 * d + 2) = u.2 (17 + d) ∧ rc (4 * d + 3) = u.2 (24 + d)) (hQ : ∀ d, d < q → ∀ j, j < 4 → ra (4 * d + j) = u.2 (31 + 7 * j + d)) : PR (a, c + 1, q, upd (upd (upd (upd rc (4 * c) ch) (4 * c + 1) v1) (4 * c + 2) v2) (4 * c + 3) v3, ra) (a, upd (upd (upd (upd (upd u.2 (3 + c) (knd ch)) 0 (u.2 0 + nI 1)) (10 + c) v1) (17 + c) v2) (24 + c) v3) := by
  refine ⟨rfl, ?_, ?_, by show c + 1 ≤ 7; omega, hq7, fun d hd => ?_, fun d hd j hj => ?_⟩
  · show upd _ _ _ 0 = nI (c + 1)
    rw [pk_un (by omega), pk_un (by omega), pk_un (by omega), pk_us, ec, nI_add]
  · show upd _ _ _ 1 = nI q
    rw [pk_un (by omega), pk_un (by omega), pk_un (by omega), pk_un (by omega), pk_un (by omega), eq]
  · have hd : d < c + 1 := hd
    by_cases e : d = c
    · subst e
      refine ⟨?_, ?_, ?_, ?_⟩
      · show knd (upd _ _ _ (4 * d)) = upd _ _ _ (3 + d)
        rw [pk_un (by omega), pk_un (by omega), pk_un (by omega), pk_us, pk_un (by omega), pk_un (by omega), pk_un (by omega), pk_un (by omega), pk_us]
      · show upd _ _ _ (4 * d + 1) = upd _ _ _ (10 + d)
        rw [pk_un (by omega), pk_un (by omega), pk_us, pk_un (by omega), pk_un (by omega), pk_us]
      · show upd _ _ _ (4 * d + 2) = upd _ _ _ (17 + d)
        rw [pk_un (by omega), pk_us, pk_un (by omega), pk_us]
      · show upd _ _ _ (4 * d + 3) = upd _ _ _ (24 + d)
        rw [pk_us, pk_us]
    · obtain ⟨a1, a2, a3, a4⟩ := hC d (by omega)
      refine ⟨?_, ?_, ?_, ?_⟩
      · show knd (upd _ _ _ (4 * d)) = upd _ _ _ (3 + d)
        rw [pk_un (by omega), pk_un (by omega), pk_un (by omega), pk_un (by omega), pk_un (by omega), pk_un (by omega), pk_un (by omega), pk_un (by omega), pk_un (by omega)]
        exact a1
      · show upd _ _ _ (4 * d + 1) = upd _ _ _ (10 + d)
        rw [pk_un (by omega), pk_un (by omega), pk_un (by omega), pk_un (by omega), pk_un (by omega), pk_un (by omega), pk_un (by omega), pk_un (by omega), pk_un (by omega)]
        exact a2
      · show upd _ _ _ (4 * d + 2) = upd _ _ _ (17 + d)
        rw [pk_un (by omega), pk_un (by omega), pk_un (by omega), pk_un (by omega), pk_un (by omega), pk_un (by omega), pk_un (by omega), pk_un (by omega), pk_un (by omega)]
        exact a3
      · show upd _ _ _ (4 * d + 3) = upd _ _ _ (24 + d)
        rw [pk_un (by omega), pk_un (by omega), pk_un (by omega), pk_un (by omega), pk_un (by omega), pk_un (by omega), pk_un (by omega), pk_un (by omega), pk_un (by omega)]
        exact a4
  · show ra (4 * d + j) = upd _ _ _ (31 + 7 * j + d)
    rw [pk_un (by omega), pk_un (by omega), pk_un (by omega), pk_un (by omega), pk_un (by omega)]
    exact hQ d hd j hj
theorem x_rcS (hT : Own o τ p tag (.inl (1, sz, f))) (hf : ∀ i, i < sz → f i = g i) (hsz : sz ≤ 80) {K : Option Value → Mem → Prop} (s : RS) (hs : s.1 ≤ 200) (c k lim : Nat) (hc : c < 7) (hk1 : 1 ≤ k) (hk : k ≤ 3) (hlim : lim = if k = 2 then 3 else 9) (hK : inR (bt g sz s.1 - nI 48) (nI 0) (nI lim) = false → K (some (.int (nI 0))) (mX o (rsX x p s))) (kk : inR (bt g sz s.1 - nI 48) (nI 0) (nI lim) = true → GL gX0_readsCard (rm (L + 13) 0 0) K 0 0 57 [some (.ref 1), some (.int (nI (4 * c))), some (.int (nI (k + 1))), none] [] (mX o (rsX x p (s.1 + 1, s.2.1, s.2.2.1, upd s.2.2.2.1 (4 * c + k) (bt g sz s.1 - nI 48), s.2.2.2.2)))) : GL gX0_readsCard (rm (L + 13) 0 0) K 0 0 57 [some (.ref 1), some (.int (nI (4 * c))), some (.int (nI k)), none] [] (mX o (rsX x p s)) := by
  have tl : GL gX0_readsCard (rm (L + 13) 0 0) K 0 0 75 [some (.ref 1), some (.int (nI (4 * c))), some (.int (nI k)), none] [.int (nI lim), .int (nI 0), .ref 1] (mX o (rsX x p s)) := by
    refine gl_callV (x_readsFigure L hT hf hsz s hs 0 lim (by omega) (by rw [hlim]; split <;> omega)) dX0_readsCard_75 q419 q421 qs7 q74 q422 rfl hX0_readsFigure rfl (rfl : vwCl[0]? = some (RX0, TX0, 30)) rfl rfl (rmOk (by omega) rfl) ⟨by first | exact Nat.le_refl _ | exact Nat.zero_le _ | decide | (dsimp only [rm]; omega), by first | exact Nat.le_refl _ | exact Nat.zero_le _ | decide | (dsimp only [rm]; omega)⟩ ?_
    rintro _ _ (⟨h, rfl, rfl⟩ | ⟨h, rfl, rfl⟩)
    · obtain ⟨v, -, hv, e⟩ := inR_nat (a := 0) (by omega) (by rw [hlim]; split <;> omega) h
      have hv' : ¬ bt g sz s.1 - nI 48 = -9 := by
        rw [e]
        refine nI_ne9 ?_
        have : lim ≤ 9 := by rw [hlim]; split <;> omega
        omega
      refine gl_istore_n dX0_readsCard_78 rfl rfl ?_
      refine gl_iload_n dX0_readsCard_79 rfl ?_
      refine gl_bipush (v := (-9)) dX0_readsCard_80 (by decide) ?_
      refine gl_icmp_ne (tgt := 87) dX0_readsCard_82 (by decide) (fun _ => ?_) (fun h => absurd h (hv'))
      refine gl_aload_n dX0_readsCard_87 rfl ?_
      refine gl_get (k := 16) dX0_readsCard_88 rfl (rfl : vwCl[0]? = some (RX0, TX0, 30)) in_X0 (by decide) q129 rfl ?_
      refine gl_iload_n dX0_readsCard_91 rfl ?_
      refine gl_iload_n dX0_readsCard_92 rfl ?_
      refine gl_iadd dX0_readsCard_93 ?_
      refine gl_iload_n dX0_readsCard_94 rfl ?_
      refine gl_iast (j := ((4*c) + k)) dX0_readsCard_95 rfl (by simp only [nI_add, nI_mul]) (by omega) ?_
      refine gl_iinc (v := (nI (k + 1))) dX0_readsCard_96 rfl (nI_1 _) rfl rfl ?_
      refine gl_goto (tgt := 57) dX0_readsCard_99 (by decide) ?_
      refine gl_drop 3 ?_
      exact kk h
    · refine gl_istore_n dX0_readsCard_78 rfl rfl ?_
      refine gl_iload_n dX0_readsCard_79 rfl ?_
      refine gl_bipush (v := (-9)) dX0_readsCard_80 (by decide) ?_
      refine gl_icmp_ne (tgt := 87) dX0_readsCard_82 (by decide) (fun h => absurd (rfl) h) (fun _ => ?_)
      refine gl_iconst (v := nI 0) dX0_readsCard_85 (by decide) ?_
      exact gl_zret dX0_readsCard_86 rfl (by decide) (hK h) (hc := by first | exact Nat.zero_le _ | (dsimp only [rm]; omega)) (hs := by first | exact Nat.zero_le _ | (dsimp only [rm]; omega))
  refine gl_iload_n dX0_readsCard_57 rfl ?_
  refine gl_iconst (v := nI 4) dX0_readsCard_58 (by decide) ?_
  refine gl_icmp_ge (tgt := 102) dX0_readsCard_59 (by decide) (fun h => absurd h (nI_ge (by omega) (by omega))) (fun _ => ?_)
  refine gl_aload_n dX0_readsCard_62 rfl ?_
  refine gl_iconst (v := nI 0) dX0_readsCard_63 (by decide) ?_
  refine gl_iload_n dX0_readsCard_64 rfl ?_
  refine gl_iconst (v := nI 2) dX0_readsCard_65 (by decide) ?_
  by_cases h2 : k = 2
  · rw [if_pos h2] at hlim
    subst hlim
    refine gl_icmp_ne (tgt := 73) dX0_readsCard_66 (by decide) (fun h => absurd ((by rw [h2])) h) (fun _ => ?_)
    refine gl_iconst (v := nI 3) dX0_readsCard_69 (by decide) ?_
    refine gl_goto (tgt := 75) dX0_readsCard_70 (by decide) ?_
    exact tl
  · rw [if_neg h2] at hlim
    subst hlim
    refine gl_icmp_ne (tgt := 73) dX0_readsCard_66 (by decide) (fun _ => ?_) (fun h => absurd h ((fun q => h2 ((nI_eq (by omega) (by omega)).mp q))))
    refine gl_bipush (v := nI 9) dX0_readsCard_73 (by decide) ?_
    exact tl
/-- what a reader of one card or question comes to -/
def rcP (o : OX) (x : XY) (p : Nat) (r : Bool × PS) : Option Value → Mem → Prop := fun v μ => ∃ s : RS, v = some (.int (bI r.1)) ∧ μ = mX o (rsX x p s) ∧ s.1 = r.2.1 ∧ (r.1 = true → PR s r.2)
theorem x_readsCard (hT : Own o τ p tag (.inl (1, sz, f))) (hf : ∀ i, i < sz → f i = g i) (hsz : sz ≤ 80) (s : RS) (hs : s.1 ≤ 100) (u : PS) (hP : PR s u) : Ct yX0_readsCard gX0_readsCard (L + 13) 0 0 [.ref 1] (mX o (rsX x p s)) (rcP o x p (tc g sz u)) := by
  refine Ct.of rfl rfl rfl rfl rfl ?_
  obtain ⟨e1, ec, eq, hc7, hq7, hC, hQ⟩ := hP
  obtain ⟨s1, c, q, rc, ra⟩ := s
  dsimp only at e1 ec eq hc7 hq7 hC hQ hs
  subst e1
  refine gl_aload_n dX0_readsCard_0 rfl ?_
  refine gl_callV (x_sign L hT hf hsz (u.1, c, q, rc, ra) (by show u.1 ≤ 200; omega)) dX0_readsCard_1 q411 q413 qs5 q74 q414 rfl hX0_sign rfl (rfl : vwCl[0]? = some (RX0, TX0, 30)) rfl rfl (rmOk (by omega) rfl) ⟨by first | exact Nat.le_refl _ | exact Nat.zero_le _ | decide | (dsimp only [rm]; omega), by first | exact Nat.le_refl _ | exact Nat.zero_le _ | decide | (dsimp only [rm]; omega)⟩ (rt1 ?_)
  refine gl_callS (x_isCardSign L _ _) dX0_readsCard_4 q427 q428 q74 q429 rfl hX0_isCardSign rfl rfl (rmOk (by omega) rfl) ⟨by first | exact Nat.le_refl _ | exact Nat.zero_le _ | decide | (dsimp only [rm]; omega), by first | exact Nat.le_refl _ | exact Nat.zero_le _ | decide | (dsimp only [rm]; omega)⟩ (rt1 ?_)
  rw [sgn_knd]
  refine gl_if_eq (tgt := 26) dX0_readsCard_7 (by decide) (fun h7 => ?_) (fun h7 => ?_)
  · have h := bI_fa h7
    have hb : knd (bt g sz u.1) < 0 ∨ u.2 0 = nI 7 ∨ 0 < u.2 1 := Or.inl (by simpa using h)
    rw [show tc g sz u = (false, u) by unfold tc; rw [if_pos hb]]
    refine gl_iconst (v := nI 0) dX0_readsCard_26 (by decide) ?_
    exact gl_zret dX0_readsCard_27 rfl (by decide) ⟨(u.1, c, q, rc, ra), rfl, rfl, rfl, fun z => by cases z⟩ (hc := by first | exact Nat.zero_le _ | (dsimp only [rm]; omega)) (hs := by first | exact Nat.zero_le _ | (dsimp only [rm]; omega))
  · have hk : ¬ knd (bt g sz u.1) < 0 := by simpa using bI_tr h7
    refine gl_aload_n dX0_readsCard_10 rfl ?_
    refine gl_get (k := 15) dX0_readsCard_11 rfl (rfl : vwCl[0]? = some (RX0, TX0, 30)) in_X0 (by decide) q128 rfl ?_
    refine gl_bipush (v := nI 7) dX0_readsCard_14 (by decide) ?_
    refine gl_icmp_eq (tgt := 26) dX0_readsCard_16 (by decide) (fun h16 => ?_) (fun h16 => ?_)
    · have hb : knd (bt g sz u.1) < 0 ∨ u.2 0 = nI 7 ∨ 0 < u.2 1 := Or.inr (Or.inl (by rw [ec]; exact h16))
      rw [show tc g sz u = (false, u) by unfold tc; rw [if_pos hb]]
      refine gl_iconst (v := nI 0) dX0_readsCard_26 (by decide) ?_
      exact gl_zret dX0_readsCard_27 rfl (by decide) ⟨(u.1, c, q, rc, ra), rfl, rfl, rfl, fun z => by cases z⟩ (hc := by first | exact Nat.zero_le _ | (dsimp only [rm]; omega)) (hs := by first | exact Nat.zero_le _ | (dsimp only [rm]; omega))
    · have hc : c < 7 := by
        rcases Nat.lt_or_ge c 7 with z | z
        · exact z
        · exact absurd (show nI c = nI 7 by rw [show c = 7 by omega]) h16
      refine gl_aload_n dX0_readsCard_19 rfl ?_
      refine gl_get (k := 17) dX0_readsCard_20 rfl (rfl : vwCl[0]? = some (RX0, TX0, 30)) in_X0 (by decide) q130 rfl ?_
      refine gl_if_le (tgt := 28) dX0_readsCard_23 (by decide) (fun h23 => ?_) (fun h23 => ?_)
      · have hq0 : ¬ 0 < u.2 1 := by
          rw [eq]
          exact k2_nlt h23
        have hb : ¬ (knd (bt g sz u.1) < 0 ∨ u.2 0 = nI 7 ∨ 0 < u.2 1) := by
          rintro (z | z | z)
          · exact hk z
          · rw [ec] at z; exact h16 z
          · exact hq0 z
        have hpos : u.1 < sz := by
          rcases Nat.lt_or_ge u.1 sz with z | z
          · exact z
          · exfalso
            apply hk
            unfold bt
            rw [if_neg (by omega)]
            decide
        have hsg : sgn g sz u.1 = bt g sz u.1 := by
          unfold sgn bt
          rw [if_pos hpos, if_pos hpos]
        refine gl_iconst (v := nI 4) dX0_readsCard_28 (by decide) ?_
        refine gl_aload_n dX0_readsCard_29 rfl ?_
        refine gl_get (k := 15) dX0_readsCard_30 rfl (rfl : vwCl[0]? = some (RX0, TX0, 30)) in_X0 (by decide) q128 rfl ?_
        refine gl_top (w := .int (nI c)) rfl ?_
        refine gl_imul dX0_readsCard_33 ?_
        rw [nI_mul]
        refine gl_istore_n dX0_readsCard_34 rfl rfl ?_
        refine gl_aload_n dX0_readsCard_35 rfl ?_
        refine gl_get (k := 16) dX0_readsCard_36 rfl (rfl : vwCl[0]? = some (RX0, TX0, 30)) in_X0 (by decide) q129 rfl ?_
        refine gl_iload_n dX0_readsCard_39 rfl ?_
        refine gl_aload_n dX0_readsCard_40 rfl ?_
        refine gl_callV (x_sign L hT hf hsz (u.1, c, q, rc, ra) (by show u.1 ≤ 200; omega)) dX0_readsCard_41 q411 q413 qs5 q74 q414 rfl hX0_sign rfl (rfl : vwCl[0]? = some (RX0, TX0, 30)) rfl rfl (rmOk (by omega) rfl) ⟨by first | exact Nat.le_refl _ | exact Nat.zero_le _ | decide | (dsimp only [rm]; omega), by first | exact Nat.le_refl _ | exact Nat.zero_le _ | decide | (dsimp only [rm]; omega)⟩ (rt1 ?_)
        rw [hsg]
        refine gl_iast (j := (4*c)) dX0_readsCard_44 rfl rfl (by omega) ?_
        refine gl_aload_n dX0_readsCard_45 rfl ?_
        refine gl_dup dX0_readsCard_46 rfl ?_
        refine gl_get (k := 14) dX0_readsCard_47 rfl (rfl : vwCl[0]? = some (RX0, TX0, 30)) in_X0 (by decide) q127 rfl ?_
        refine gl_top (w := .int (nI u.1)) rfl ?_
        refine gl_iconst (v := nI 1) dX0_readsCard_50 (by decide) ?_
        refine gl_iadd dX0_readsCard_51 ?_
        rw [nI_add]
        refine gl_put (k := 14) dX0_readsCard_52 rfl (rfl : vwCl[0]? = some (RX0, TX0, 30)) in_X0 tyX0 tyX0_ok nmX0 (by decide) rfl q127 (fun _ _ => ⟨rfl, rfl⟩) rfl ?_
        refine gl_iconst (v := nI 1) dX0_readsCard_55 (by decide) ?_
        refine gl_istore_n dX0_readsCard_56 rfl rfl ?_
        refine gl_mem (μ1 := mX o (rsX x p (u.1 + 1, c, q, upd rc (4 * c) (bt g sz u.1), ra))) rfl ?_
        have ixc : ix (u.2 0) = c := by rw [ec]; exact ix_nI (by omega)
        unfold tc
        rw [if_neg hb, ixc]
        refine x_rcS L hT hf hsz (u.1 + 1, c, q, upd rc (4 * c) (bt g sz u.1), ra) (by show u.1 + 1 ≤ 200; omega) c 1 9 hc (by omega) (by omega) rfl (fun h => ?_) (fun ok1 => ?_)
        · have h : inR (bt g sz (u.1 + 1) - nI 48) (nI 0) (nI 9) = false := h
          refine ⟨(u.1 + 1, c, q, upd rc (4 * c) (bt g sz u.1), ra), ?_, rfl, ?_, ?_⟩ <;> simp [thn, tk, h, bI]
        · have ok1 : inR (bt g sz (u.1 + 1) - nI 48) (nI 0) (nI 9) = true := ok1
          refine x_rcS L hT hf hsz (u.1 + 1 + 1, c, q, upd (upd rc (4 * c) (bt g sz u.1)) (4 * c + 1) (bt g sz (u.1 + 1) - nI 48), ra) (by show u.1 + 1 + 1 ≤ 200; omega) c 2 3 hc (by omega) (by omega) rfl (fun h => ?_) (fun ok2 => ?_)
          · have h : inR (bt g sz (u.1 + 1 + 1) - nI 48) (nI 0) (nI 3) = false := h
            refine ⟨(u.1 + 1 + 1, c, q, upd (upd rc (4 * c) (bt g sz u.1)) (4 * c + 1) (bt g sz (u.1 + 1) - nI 48), ra), ?_, rfl, ?_, ?_⟩ <;> simp [thn, tk, ok1, h, bI]
          · have ok2 : inR (bt g sz (u.1 + 1 + 1) - nI 48) (nI 0) (nI 3) = true := ok2
            refine x_rcS L hT hf hsz (u.1 + 1 + 1 + 1, c, q, upd (upd (upd rc (4 * c) (bt g sz u.1)) (4 * c + 1) (bt g sz (u.1 + 1) - nI 48)) (4 * c + 2) (bt g sz (u.1 + 1 + 1) - nI 48), ra) (by show u.1 + 1 + 1 + 1 ≤ 200; omega) c 3 9 hc (by omega) (by omega) rfl (fun h => ?_) (fun ok3 => ?_)
            · have h : inR (bt g sz (u.1 + 1 + 1 + 1) - nI 48) (nI 0) (nI 9) = false := h
              refine ⟨(u.1 + 1 + 1 + 1, c, q, upd (upd (upd rc (4 * c) (bt g sz u.1)) (4 * c + 1) (bt g sz (u.1 + 1) - nI 48)) (4 * c + 2) (bt g sz (u.1 + 1 + 1) - nI 48), ra), ?_, rfl, ?_, ?_⟩ <;> simp [thn, tk, ok1, ok2, h, bI]
            · have ok3 : inR (bt g sz (u.1 + 1 + 1 + 1) - nI 48) (nI 0) (nI 9) = true := ok3
              rw [show thn (thn (tk g sz (u.1 + 1, upd (upd u.2 (3 + c) (knd (bt g sz u.1))) 0 (u.2 0 + nI 1)) (10 + c) (nI 0) (nI 9)) fun v => tk g sz v (17 + c) (nI 0) (nI 3)) (fun v => tk g sz v (24 + c) (nI 0) (nI 9)) = (true, u.1 + 1 + 1 + 1 + 1, upd (upd (upd (upd (upd u.2 (3 + c) (knd (bt g sz u.1))) 0 (u.2 0 + nI 1)) (10 + c) (bt g sz (u.1 + 1) - nI 48)) (17 + c) (bt g sz (u.1 + 1 + 1) - nI 48)) (24 + c) (bt g sz (u.1 + 1 + 1 + 1) - nI 48)) by simp [thn, tk, ok1, ok2, ok3]]
              generalize bt g sz (u.1 + 1 + 1 + 1) - nI 48 = v3
              generalize bt g sz (u.1 + 1 + 1) - nI 48 = v2
              generalize bt g sz (u.1 + 1) - nI 48 = v1
              refine gl_iload_n dX0_readsCard_57 rfl ?_
              refine gl_iconst (v := nI 4) dX0_readsCard_58 (by decide) ?_
              refine gl_icmp_ge (tgt := 102) dX0_readsCard_59 (by decide) (fun _ => ?_) (fun h => absurd ((by decide)) h)
              refine gl_aload_n dX0_readsCard_102 rfl ?_
              refine gl_dup dX0_readsCard_103 rfl ?_
              refine gl_get (k := 15) dX0_readsCard_104 rfl (rfl : vwCl[0]? = some (RX0, TX0, 30)) in_X0 (by decide) q128 rfl ?_
              refine gl_top (w := .int (nI c)) rfl ?_
              refine gl_iconst (v := nI 1) dX0_readsCard_107 (by decide) ?_
              refine gl_iadd dX0_readsCard_108 ?_
              rw [nI_add]
              refine gl_put (k := 15) dX0_readsCard_109 rfl (rfl : vwCl[0]? = some (RX0, TX0, 30)) in_X0 tyX0 tyX0_ok nmX0 (by decide) rfl q128 (fun _ _ => ⟨rfl, rfl⟩) rfl ?_
              refine gl_mem (μ1 := mX o (rsX x p (u.1 + 1 + 1 + 1 + 1, c + 1, q, upd (upd (upd (upd rc (4 * c) (bt g sz u.1)) (4 * c + 1) v1) (4 * c + 2) v2) (4 * c + 3) v3, ra))) rfl ?_
              refine gl_iconst (v := nI 1) dX0_readsCard_112 (by decide) ?_
              exact gl_zret dX0_readsCard_113 rfl (by decide) ⟨(u.1 + 1 + 1 + 1 + 1, c + 1, q, upd (upd (upd (upd rc (4 * c) (bt g sz u.1)) (4 * c + 1) v1) (4 * c + 2) v2) (4 * c + 3) v3, ra), rfl, rfl, rfl, fun _ => PR_card ec eq hc hq7 hC hQ⟩ (hc := by first | exact Nat.zero_le _ | (dsimp only [rm]; omega)) (hs := by first | exact Nat.zero_le _ | (dsimp only [rm]; omega))
      · have hb : knd (bt g sz u.1) < 0 ∨ u.2 0 = nI 7 ∨ 0 < u.2 1 := Or.inr (Or.inr (by rw [eq]; exact k2_lt h23))
        rw [show tc g sz u = (false, u) by unfold tc; rw [if_pos hb]]
        refine gl_iconst (v := nI 0) dX0_readsCard_26 (by decide) ?_
        exact gl_zret dX0_readsCard_27 rfl (by decide) ⟨(u.1, c, q, rc, ra), rfl, rfl, rfl, fun z => by cases z⟩ (hc := by first | exact Nat.zero_le _ | (dsimp only [rm]; omega)) (hs := by first | exact Nat.zero_le _ | (dsimp only [rm]; omega))
end XV

