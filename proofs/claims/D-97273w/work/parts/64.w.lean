/-! the component reads questions, whole texts -/
set_option maxRecDepth 100000
theorem PR_ask {u : PS} {c q : Nat} {rc ra : Nat → Int32} {v0 v1 v2 v3 : Int32} {a : Nat} (ec : u.2 0 = nI c) (eq : u.2 1 = nI q) (hc7 : c ≤ 7) (hq : q < 7) (hC : ∀ d, d < c → knd (rc (4 * d)) = u.2 (3 + d) ∧ rc (4 * d + 1) = u.2 (10 + d) ∧ rc (4 * d + 2) = u.2 (17 + d) ∧ rc (4 * d + 3) = u.2 (24 + d)) (hQ : ∀ d, d < q → ∀ j, j < 4 → ra (4 * d + j) = u.2 (31 + 7 * j + d)) : PR (a, c, q + 1, rc, upd (upd (upd (upd ra (4 * q + 0) v0) (4 * q + 1) v1) (4 * q + 2) v2) (4 * q + 3) v3) (a, upd (upd (upd (upd (upd u.2 1 (u.2 1 + nI 1)) (31 + q) v0) (38 + q) v1) (45 + q) v2) (52 + q) v3) := by
  refine ⟨rfl, ?_, ?_, hc7, by show q + 1 ≤ 7; omega, fun d hd => ?_, fun d hd j hj => ?_⟩
  · show upd _ _ _ 0 = nI c
    rw [pk_un (by omega), pk_un (by omega), pk_un (by omega), pk_un (by omega), pk_un (by omega), ec]
  · show upd _ _ _ 1 = nI (q + 1)
    rw [pk_un (by omega), pk_un (by omega), pk_un (by omega), pk_un (by omega), pk_us, eq, nI_add]
  · obtain ⟨a1, a2, a3, a4⟩ := hC d hd
    have hd : d < c := hd
    refine ⟨?_, ?_, ?_, ?_⟩
    · show knd (rc (4 * d)) = upd _ _ _ (3 + d)
      rw [pk_un (by omega), pk_un (by omega), pk_un (by omega), pk_un (by omega), pk_un (by omega)]
      exact a1
    · show rc (4 * d + 1) = upd _ _ _ (10 + d)
      rw [pk_un (by omega), pk_un (by omega), pk_un (by omega), pk_un (by omega), pk_un (by omega)]
      exact a2
    · show rc (4 * d + 2) = upd _ _ _ (17 + d)
      rw [pk_un (by omega), pk_un (by omega), pk_un (by omega), pk_un (by omega), pk_un (by omega)]
      exact a3
    · show rc (4 * d + 3) = upd _ _ _ (24 + d)
      rw [pk_un (by omega), pk_un (by omega), pk_un (by omega), pk_un (by omega), pk_un (by omega)]
      exact a4
  · have hd : d < q + 1 := hd
    by_cases e : d = q
    · subst e
      match j, hj with
      | 0, _ =>
        show upd _ _ _ (4 * d + 0) = upd _ _ _ (31 + 7 * 0 + d)
        rw [show 31 + 7 * 0 + d = 31 + d by omega, pk_un (by omega), pk_un (by omega), pk_un (by omega), pk_us, pk_un (by omega), pk_un (by omega), pk_un (by omega), pk_us]
      | 1, _ =>
        show upd _ _ _ (4 * d + 1) = upd _ _ _ (31 + 7 * 1 + d)
        rw [show 31 + 7 * 1 + d = 38 + d by omega, pk_un (by omega), pk_un (by omega), pk_us, pk_un (by omega), pk_un (by omega), pk_us]
      | 2, _ =>
        show upd _ _ _ (4 * d + 2) = upd _ _ _ (31 + 7 * 2 + d)
        rw [show 31 + 7 * 2 + d = 45 + d by omega, pk_un (by omega), pk_us, pk_un (by omega), pk_us]
      | 3, _ =>
        show upd _ _ _ (4 * d + 3) = upd _ _ _ (31 + 7 * 3 + d)
        rw [show 31 + 7 * 3 + d = 52 + d by omega, pk_us, pk_us]
    · show upd _ _ _ (4 * d + j) = upd _ _ _ (31 + 7 * j + d)
      rw [pk_un (by omega), pk_un (by omega), pk_un (by omega), pk_un (by omega), pk_un (by omega), pk_un (by omega), pk_un (by omega), pk_un (by omega), pk_un (by omega)]
      exact hQ d (by omega) j hj
section XW
variable (L : Nat) {o : OX} {τ : Nat → Nat} {x : XY} {p tag sz : Nat} {f g : Nat → Int32}
theorem x_rqS (hT : Own o τ p tag (.inl (1, sz, f))) (hf : ∀ i, i < sz → f i = g i) (hsz : sz ≤ 80) {K : Option Value → Mem → Prop} (s : RS) (hs : s.1 ≤ 200) (q k lo hi : Nat) (hq : q < 7) (hk : k ≤ 3) (hlo9 : lo ≤ 9) (hlo : if k = 2 then s.2.2.2.2 (4 * q + 1) = nI lo else lo = if k = 3 then 1 else 0) (hhi : hi = if k = 0 then 5 else 9) (hK : inR (bt g sz s.1 - nI 48) (nI lo) (nI hi) = false → K (some (.int (nI 0))) (mX o (rsX x p s))) (kk : inR (bt g sz s.1 - nI 48) (nI lo) (nI hi) = true → GL gX0_readsQuestion (rm (L + 13) 0 0) K 0 0 37 [some (.ref 1), some (.int (nI (4 * q))), some (.int (nI (k + 1))), none, none] [] (mX o (rsX x p (s.1 + 1, s.2.1, s.2.2.1, s.2.2.2.1, upd s.2.2.2.2 (4 * q + k) (bt g sz s.1 - nI 48))))) : GL gX0_readsQuestion (rm (L + 13) 0 0) K 0 0 37 [some (.ref 1), some (.int (nI (4 * q))), some (.int (nI k)), none, none] [] (mX o (rsX x p s)) := by
  have hhi9 : hi ≤ 9 := by rw [hhi]; split <;> omega
  have tl : GL gX0_readsQuestion (rm (L + 13) 0 0) K 0 0 81 [some (.ref 1), some (.int (nI (4 * q))), some (.int (nI k)), some (.int (nI lo)), none] [.int (nI hi), .int (nI lo), .ref 1] (mX o (rsX x p s)) := by
    refine gl_callV (x_readsFigure L hT hf hsz s hs lo hi (by omega) (by omega)) dX0_readsQuestion_81 q419 q421 qs7 q74 q422 rfl hX0_readsFigure rfl (rfl : vwCl[0]? = some (RX0, TX0, 30)) rfl rfl (rmOk (by omega) rfl) ⟨by first | exact Nat.le_refl _ | exact Nat.zero_le _ | decide | (dsimp only [rm]; omega), by first | exact Nat.le_refl _ | exact Nat.zero_le _ | decide | (dsimp only [rm]; omega)⟩ ?_
    rintro _ _ (⟨h, rfl, rfl⟩ | ⟨h, rfl, rfl⟩)
    · obtain ⟨v, -, hv, e⟩ := inR_nat (by omega) (by omega) h
      have hv' : ¬ bt g sz s.1 - nI 48 = -9 := by
        rw [e]
        exact nI_ne9 (by omega)
      refine gl_istore dX0_readsQuestion_84 rfl rfl ?_
      refine gl_iload dX0_readsQuestion_86 rfl ?_
      refine gl_bipush (v := (-9)) dX0_readsQuestion_88 (by decide) ?_
      refine gl_icmp_ne (tgt := 95) dX0_readsQuestion_90 (by decide) (fun _ => ?_) (fun h => absurd h (hv'))
      refine gl_aload_n dX0_readsQuestion_95 rfl ?_
      refine gl_get (k := 18) dX0_readsQuestion_96 rfl (rfl : vwCl[0]? = some (RX0, TX0, 30)) in_X0 (by decide) q131 rfl ?_
      refine gl_iload_n dX0_readsQuestion_99 rfl ?_
      refine gl_iload_n dX0_readsQuestion_100 rfl ?_
      refine gl_iadd dX0_readsQuestion_101 ?_
      refine gl_iload dX0_readsQuestion_102 rfl ?_
      refine gl_iast (j := ((4*q) + k)) dX0_readsQuestion_104 rfl (by simp only [nI_add, nI_mul]) (by omega) ?_
      refine gl_iinc (v := (nI (k + 1))) dX0_readsQuestion_105 rfl (nI_1 _) rfl rfl ?_
      refine gl_goto (tgt := 37) dX0_readsQuestion_108 (by decide) ?_
      refine gl_drop 3 (gl_drop 4 ?_)
      exact kk h
    · refine gl_istore dX0_readsQuestion_84 rfl rfl ?_
      refine gl_iload dX0_readsQuestion_86 rfl ?_
      refine gl_bipush (v := (-9)) dX0_readsQuestion_88 (by decide) ?_
      refine gl_icmp_ne (tgt := 95) dX0_readsQuestion_90 (by decide) (fun h => absurd (rfl) h) (fun _ => ?_)
      refine gl_iconst (v := nI 0) dX0_readsQuestion_93 (by decide) ?_
      exact gl_zret dX0_readsQuestion_94 rfl (by decide) (hK h) (hc := by first | exact Nat.zero_le _ | (dsimp only [rm]; omega)) (hs := by first | exact Nat.zero_le _ | (dsimp only [rm]; omega))
  have tm : GL gX0_readsQuestion (rm (L + 13) 0 0) K 0 0 68 [some (.ref 1), some (.int (nI (4 * q))), some (.int (nI k)), none, none] [.int (nI lo)] (mX o (rsX x p s)) := by
    refine gl_istore_n dX0_readsQuestion_68 rfl rfl ?_
    refine gl_aload_n dX0_readsQuestion_69 rfl ?_
    refine gl_iload_n dX0_readsQuestion_70 rfl ?_
    refine gl_iload_n dX0_readsQuestion_71 rfl ?_
    by_cases h0 : k = 0
    · rw [if_pos h0] at hhi
      subst hhi
      refine gl_if_ne (tgt := 79) dX0_readsQuestion_72 (by decide) (fun h => absurd ((by rw [h0]; decide)) h) (fun _ => ?_)
      refine gl_iconst (v := nI 5) dX0_readsQuestion_75 (by decide) ?_
      refine gl_goto (tgt := 81) dX0_readsQuestion_76 (by decide) ?_
      exact tl
    · rw [if_neg h0] at hhi
      subst hhi
      refine gl_if_ne (tgt := 79) dX0_readsQuestion_72 (by decide) (fun _ => ?_) (fun h => absurd h (nI_ne0 (by omega) (by omega)))
      refine gl_bipush (v := nI 9) dX0_readsQuestion_79 (by decide) ?_
      exact tl
  refine gl_iload_n dX0_readsQuestion_37 rfl ?_
  refine gl_iconst (v := nI 4) dX0_readsQuestion_38 (by decide) ?_
  refine gl_icmp_ge (tgt := 111) dX0_readsQuestion_39 (by decide) (fun h => absurd h (nI_ge (by omega) (by omega))) (fun _ => ?_)
  refine gl_iload_n dX0_readsQuestion_42 rfl ?_
  refine gl_iconst (v := nI 2) dX0_readsQuestion_43 (by decide) ?_
  by_cases h2 : k = 2
  · rw [if_pos h2] at hlo
    refine gl_icmp_ne (tgt := 58) dX0_readsQuestion_44 (by decide) (fun h => absurd ((by rw [h2])) h) (fun _ => ?_)
    refine gl_aload_n dX0_readsQuestion_47 rfl ?_
    refine gl_get (k := 18) dX0_readsQuestion_48 rfl (rfl : vwCl[0]? = some (RX0, TX0, 30)) in_X0 (by decide) q131 rfl ?_
    refine gl_iload_n dX0_readsQuestion_51 rfl ?_
    refine gl_iconst (v := nI 1) dX0_readsQuestion_52 (by decide) ?_
    refine gl_iadd dX0_readsQuestion_53 ?_
    refine gl_iald (j := ((4*q) + 1)) dX0_readsQuestion_54 rfl (by simp only [nI_add, nI_mul]) (by omega) ?_
    refine gl_top (w := .int (nI lo)) (congrArg Value.int hlo) ?_
    refine gl_goto (tgt := 68) dX0_readsQuestion_55 (by decide) ?_
    exact tm
  · rw [if_neg h2] at hlo
    refine gl_icmp_ne (tgt := 58) dX0_readsQuestion_44 (by decide) (fun _ => ?_) (fun h => absurd h ((fun z => h2 ((nI_eq (by omega) (by omega)).mp z))))
    refine gl_iload_n dX0_readsQuestion_58 rfl ?_
    refine gl_iconst (v := nI 3) dX0_readsQuestion_59 (by decide) ?_
    by_cases h3 : k = 3
    · rw [if_pos h3] at hlo
      subst hlo
      refine gl_icmp_ne (tgt := 67) dX0_readsQuestion_60 (by decide) (fun h => absurd ((by rw [h3])) h) (fun _ => ?_)
      refine gl_iconst (v := nI 1) dX0_readsQuestion_63 (by decide) ?_
      refine gl_goto (tgt := 68) dX0_readsQuestion_64 (by decide) ?_
      exact tm
    · rw [if_neg h3] at hlo
      subst hlo
      refine gl_icmp_ne (tgt := 67) dX0_readsQuestion_60 (by decide) (fun _ => ?_) (fun h => absurd h ((fun z => h3 ((nI_eq (by omega) (by omega)).mp z))))
      refine gl_iconst (v := nI 0) dX0_readsQuestion_67 (by decide) ?_
      exact tm
theorem x_readsQuestion (hT : Own o τ p tag (.inl (1, sz, f))) (hf : ∀ i, i < sz → f i = g i) (hsz : sz ≤ 80) (s : RS) (hs : s.1 ≤ 100) (u : PS) (hP : PR s u) : Ct yX0_readsQuestion gX0_readsQuestion (L + 13) 0 0 [.ref 1] (mX o (rsX x p s)) (rcP o x p (tq g sz u)) := by
  refine Ct.of rfl rfl rfl rfl rfl ?_
  obtain ⟨e1, ec, eq, hc7, hq7, hC, hQ⟩ := hP
  obtain ⟨s1, c, q, rc, ra⟩ := s
  dsimp only at e1 ec eq hc7 hq7 hC hQ hs
  subst e1
  refine gl_aload_n dX0_readsQuestion_0 rfl ?_
  refine gl_get (k := 15) dX0_readsQuestion_1 rfl (rfl : vwCl[0]? = some (RX0, TX0, 30)) in_X0 (by decide) q128 rfl ?_
  refine gl_if_eq (tgt := 16) dX0_readsQuestion_4 (by decide) (fun h4 => ?_) (fun h4 => ?_)
  · have hb : u.2 0 = 0 ∨ u.2 1 = nI 7 := Or.inl (by rw [ec]; exact h4)
    rw [show tq g sz u = (false, u) by unfold tq; rw [if_pos hb]]
    refine gl_iconst (v := nI 0) dX0_readsQuestion_16 (by decide) ?_
    exact gl_zret dX0_readsQuestion_17 rfl (by decide) ⟨(u.1, c, q, rc, ra), rfl, rfl, rfl, fun z => by cases z⟩ (hc := by first | exact Nat.zero_le _ | (dsimp only [rm]; omega)) (hs := by first | exact Nat.zero_le _ | (dsimp only [rm]; omega))
  · refine gl_aload_n dX0_readsQuestion_7 rfl ?_
    refine gl_get (k := 17) dX0_readsQuestion_8 rfl (rfl : vwCl[0]? = some (RX0, TX0, 30)) in_X0 (by decide) q130 rfl ?_
    refine gl_bipush (v := nI 7) dX0_readsQuestion_11 (by decide) ?_
    refine gl_icmp_ne (tgt := 18) dX0_readsQuestion_13 (by decide) (fun h13 => ?_) (fun h13 => ?_)
    · have hb : ¬ (u.2 0 = 0 ∨ u.2 1 = nI 7) := by
        rintro (z | z)
        · rw [ec] at z; exact h4 z
        · rw [eq] at z; exact h13 z
      have hq : q < 7 := by
        rcases Nat.lt_or_ge q 7 with z | z
        · exact z
        · exact absurd (show nI q = nI 7 by rw [show q = 7 by omega]) h13
      refine gl_iconst (v := nI 4) dX0_readsQuestion_18 (by decide) ?_
      refine gl_aload_n dX0_readsQuestion_19 rfl ?_
      refine gl_get (k := 17) dX0_readsQuestion_20 rfl (rfl : vwCl[0]? = some (RX0, TX0, 30)) in_X0 (by decide) q130 rfl ?_
      refine gl_top (w := .int (nI q)) rfl ?_
      refine gl_imul dX0_readsQuestion_23 ?_
      rw [nI_mul]
      refine gl_istore_n dX0_readsQuestion_24 rfl rfl ?_
      refine gl_aload_n dX0_readsQuestion_25 rfl ?_
      refine gl_dup dX0_readsQuestion_26 rfl ?_
      refine gl_get (k := 14) dX0_readsQuestion_27 rfl (rfl : vwCl[0]? = some (RX0, TX0, 30)) in_X0 (by decide) q127 rfl ?_
      refine gl_top (w := .int (nI u.1)) rfl ?_
      refine gl_iconst (v := nI 1) dX0_readsQuestion_30 (by decide) ?_
      refine gl_iadd dX0_readsQuestion_31 ?_
      rw [nI_add]
      refine gl_put (k := 14) dX0_readsQuestion_32 rfl (rfl : vwCl[0]? = some (RX0, TX0, 30)) in_X0 tyX0 tyX0_ok nmX0 (by decide) rfl q127 (fun _ _ => ⟨rfl, rfl⟩) rfl ?_
      refine gl_iconst (v := nI 0) dX0_readsQuestion_35 (by decide) ?_
      refine gl_istore_n dX0_readsQuestion_36 rfl rfl ?_
      refine gl_mem (μ1 := mX o (rsX x p (u.1 + 1, c, q, rc, ra))) rfl ?_
      have ixq : ix (u.2 1) = q := by rw [eq]; exact ix_nI (by omega)
      unfold tq
      rw [if_neg hb, ixq]
      refine x_rqS L hT hf hsz (u.1 + 1, c, q, rc, ra) (by show u.1 + 1 ≤ 200; omega) q 0 0 5 hq (by omega) (by omega) rfl rfl (fun h => ?_) (fun ok0 => ?_)
      · have h : inR (bt g sz (u.1 + 1) - nI 48) (nI 0) (nI 5) = false := h
        refine ⟨(u.1 + 1, c, q, rc, ra), ?_, rfl, ?_, ?_⟩ <;> simp [thn, tk, h, bI]
      · have ok0 : inR (bt g sz (u.1 + 1) - nI 48) (nI 0) (nI 5) = true := ok0
        refine x_rqS L hT hf hsz (u.1 + 1 + 1, c, q, rc, upd ra (4 * q + 0) (bt g sz (u.1 + 1) - nI 48)) (by show u.1 + 1 + 1 ≤ 200; omega) q 1 0 9 hq (by omega) (by omega) rfl rfl (fun h => ?_) (fun ok1 => ?_)
        · have h : inR (bt g sz (u.1 + 1 + 1) - nI 48) (nI 0) (nI 9) = false := h
          refine ⟨(u.1 + 1 + 1, c, q, rc, upd ra (4 * q + 0) (bt g sz (u.1 + 1) - nI 48)), ?_, rfl, ?_, ?_⟩ <;> simp [thn, tk, ok0, h, bI]
        · have ok1 : inR (bt g sz (u.1 + 1 + 1) - nI 48) (nI 0) (nI 9) = true := ok1
          obtain ⟨lo, -, hlo9, elo⟩ := inR_nat (a := 0) (by omega) (by omega) ok1
          refine x_rqS L hT hf hsz (u.1 + 1 + 1 + 1, c, q, rc, upd (upd ra (4 * q + 0) (bt g sz (u.1 + 1) - nI 48)) (4 * q + 1) (bt g sz (u.1 + 1 + 1) - nI 48)) (by show u.1 + 1 + 1 + 1 ≤ 200; omega) q 2 lo 9 hq (by omega) hlo9 (pk_us.trans elo) rfl (fun h => ?_) (fun ok2 => ?_)
          · have h : inR (bt g sz (u.1 + 1 + 1 + 1) - nI 48) (nI lo) (nI 9) = false := h
            rw [← elo] at h
            refine ⟨(u.1 + 1 + 1 + 1, c, q, rc, upd (upd ra (4 * q + 0) (bt g sz (u.1 + 1) - nI 48)) (4 * q + 1) (bt g sz (u.1 + 1 + 1) - nI 48)), ?_, rfl, ?_, ?_⟩ <;> simp [thn, tk, ok0, ok1, h, bI, pk_us]
          · have ok2 : inR (bt g sz (u.1 + 1 + 1 + 1) - nI 48) (nI lo) (nI 9) = true := ok2
            rw [← elo] at ok2
            refine x_rqS L hT hf hsz (u.1 + 1 + 1 + 1 + 1, c, q, rc, upd (upd (upd ra (4 * q + 0) (bt g sz (u.1 + 1) - nI 48)) (4 * q + 1) (bt g sz (u.1 + 1 + 1) - nI 48)) (4 * q + 2) (bt g sz (u.1 + 1 + 1 + 1) - nI 48)) (by show u.1 + 1 + 1 + 1 + 1 ≤ 200; omega) q 3 1 9 hq (by omega) (by omega) rfl rfl (fun h => ?_) (fun ok3 => ?_)
            · have h : inR (bt g sz (u.1 + 1 + 1 + 1 + 1) - nI 48) (nI 1) (nI 9) = false := h
              refine ⟨(u.1 + 1 + 1 + 1 + 1, c, q, rc, upd (upd (upd ra (4 * q + 0) (bt g sz (u.1 + 1) - nI 48)) (4 * q + 1) (bt g sz (u.1 + 1 + 1) - nI 48)) (4 * q + 2) (bt g sz (u.1 + 1 + 1 + 1) - nI 48)), ?_, rfl, ?_, ?_⟩ <;> simp [thn, tk, ok0, ok1, ok2, h, bI, pk_us]
            · have ok3 : inR (bt g sz (u.1 + 1 + 1 + 1 + 1) - nI 48) (nI 1) (nI 9) = true := ok3
              rw [show thn (thn (thn (tk g sz (u.1 + 1, upd u.2 1 (u.2 1 + nI 1)) (31 + q) (nI 0) (nI 5)) fun v => tk g sz v (38 + q) (nI 0) (nI 9)) fun v => tk g sz v (45 + q) (v.2 (38 + q)) (nI 9)) (fun v => tk g sz v (52 + q) (nI 1) (nI 9)) = (true, u.1 + 1 + 1 + 1 + 1 + 1, upd (upd (upd (upd (upd u.2 1 (u.2 1 + nI 1)) (31 + q) (bt g sz (u.1 + 1) - nI 48)) (38 + q) (bt g sz (u.1 + 1 + 1) - nI 48)) (45 + q) (bt g sz (u.1 + 1 + 1 + 1) - nI 48)) (52 + q) (bt g sz (u.1 + 1 + 1 + 1 + 1) - nI 48)) by simp [thn, tk, ok0, ok1, ok2, ok3, pk_us]]
              generalize bt g sz (u.1 + 1 + 1 + 1 + 1) - nI 48 = v3
              generalize bt g sz (u.1 + 1 + 1 + 1) - nI 48 = v2
              generalize bt g sz (u.1 + 1 + 1) - nI 48 = v1
              generalize bt g sz (u.1 + 1) - nI 48 = v0
              refine gl_iload_n dX0_readsQuestion_37 rfl ?_
              refine gl_iconst (v := nI 4) dX0_readsQuestion_38 (by decide) ?_
              refine gl_icmp_ge (tgt := 111) dX0_readsQuestion_39 (by decide) (fun _ => ?_) (fun h => absurd ((by decide)) h)
              refine gl_aload_n dX0_readsQuestion_111 rfl ?_
              refine gl_dup dX0_readsQuestion_112 rfl ?_
              refine gl_get (k := 17) dX0_readsQuestion_113 rfl (rfl : vwCl[0]? = some (RX0, TX0, 30)) in_X0 (by decide) q130 rfl ?_
              refine gl_top (w := .int (nI q)) rfl ?_
              refine gl_iconst (v := nI 1) dX0_readsQuestion_116 (by decide) ?_
              refine gl_iadd dX0_readsQuestion_117 ?_
              rw [nI_add]
              refine gl_put (k := 17) dX0_readsQuestion_118 rfl (rfl : vwCl[0]? = some (RX0, TX0, 30)) in_X0 tyX0 tyX0_ok nmX0 (by decide) rfl q130 (fun _ _ => ⟨rfl, rfl⟩) rfl ?_
              refine gl_mem (μ1 := mX o (rsX x p (u.1 + 1 + 1 + 1 + 1 + 1, c, q + 1, rc, upd (upd (upd (upd ra (4 * q + 0) v0) (4 * q + 1) v1) (4 * q + 2) v2) (4 * q + 3) v3))) rfl ?_
              refine gl_iconst (v := nI 1) dX0_readsQuestion_121 (by decide) ?_
              exact gl_zret dX0_readsQuestion_122 rfl (by decide) ⟨(u.1 + 1 + 1 + 1 + 1 + 1, c, q + 1, rc, upd (upd (upd (upd ra (4 * q + 0) v0) (4 * q + 1) v1) (4 * q + 2) v2) (4 * q + 3) v3), rfl, rfl, rfl, fun _ => PR_ask ec eq hc7 hq hC hQ⟩ (hc := by first | exact Nat.zero_le _ | (dsimp only [rm]; omega)) (hs := by first | exact Nat.zero_le _ | (dsimp only [rm]; omega))
    · have hb : u.2 0 = 0 ∨ u.2 1 = nI 7 := Or.inr (by rw [eq]; exact h13)
      rw [show tq g sz u = (false, u) by unfold tq; rw [if_pos hb]]
      refine gl_iconst (v := nI 0) dX0_readsQuestion_16 (by decide) ?_
      exact gl_zret dX0_readsQuestion_17 rfl (by decide) ⟨(u.1, c, q, rc, ra), rfl, rfl, rfl, fun z => by cases z⟩ (hc := by first | exact Nat.zero_le _ | (dsimp only [rm]; omega)) (hs := by first | exact Nat.zero_le _ | (dsimp only [rm]; omega))
/-- what the reader of a text comes to -/
def goP (o : OX) (x : XY) (p : Nat) (r : Bool × PS) : Option Value → Mem → Prop := fun v μ => ∃ s : RS, v = some (.int (rdA r)) ∧ μ = mX o (rsX x p s) ∧ (r.1 = true → PR s r.2)
theorem sgn_lt {g : Nat → Int32} {sz p : Nat} (h : p < sz) : sgn g sz p = bt g sz p := by
  unfold sgn bt
  rw [if_pos h, if_pos h]
theorem x_goL (hT : Own o τ p tag (.inl (1, sz, f))) (hf : ∀ i, i < sz → f i = g i) (hsz : sz ≤ 80) : ∀ (fu : Nat) (s : RS) (u : PS), PR s u → okr u.2 → u.1 ≤ sz → sz ≤ u.1 + fu → GL gX0_goesOn (rm (L + 14) 0 0) (goP o x p (rdl g sz fu u)) 0 0 20 [some (.ref 1), some (.ref p)] [] (mX o (rsX x p s)) := by
  have fin : ∀ (s : RS) (u : PS), PR s u → u.1 = sz → GL gX0_goesOn (rm (L + 14) 0 0) (goP o x p (true, u)) 0 0 20 [some (.ref 1), some (.ref p)] [] (mX o (rsX x p s)) := by
    intro s u hP hu
    have e1 := hP.1
    refine gl_aload_n dX0_goesOn_20 rfl ?_
    refine gl_get (k := 14) dX0_goesOn_21 rfl (rfl : vwCl[0]? = some (RX0, TX0, 30)) in_X0 (by decide) q127 rfl ?_
    refine gl_aload_n dX0_goesOn_24 rfl ?_
    refine gl_alen dX0_goesOn_25 hT.lk ?_
    refine gl_icmp_ge (tgt := 82) dX0_goesOn_26 (by decide) (fun _ => ?_) (fun h => absurd (nI_le (by omega) (by omega)) h)
    refine gl_aload_n dX0_goesOn_82 rfl ?_
    refine gl_get (k := 15) dX0_goesOn_83 rfl (rfl : vwCl[0]? = some (RX0, TX0, 30)) in_X0 (by decide) q128 rfl ?_
    refine gl_top (w := .int (nI s.2.1)) rfl ?_
    refine gl_if_ne (tgt := 94) dX0_goesOn_86 (by decide) (fun h86 => ?_) (fun h86 => ?_)
    · have hz : ¬ u.2 0 = 0 := by rw [hP.2.1]; exact h86
      refine gl_bipush (v := (-9)) dX0_goesOn_94 (by decide) ?_
      exact gl_iret dX0_goesOn_96 rfl ⟨s, by show _ = some (Value.int (if true = true then _ else _)); rw [if_pos rfl, if_neg hz], rfl, fun _ => hP⟩ (hc := by first | exact Nat.zero_le _ | (dsimp only [rm]; omega)) (hs := by first | exact Nat.zero_le _ | (dsimp only [rm]; omega))
    · have hz : u.2 0 = 0 := by rw [hP.2.1]; exact h86
      refine gl_aload_n dX0_goesOn_89 rfl ?_
      refine gl_alen dX0_goesOn_90 hT.lk ?_
      refine gl_goto (tgt := 96) dX0_goesOn_91 (by decide) ?_
      exact gl_iret dX0_goesOn_96 rfl ⟨s, by show _ = some (Value.int (if true = true then _ else _)); rw [if_pos rfl, if_pos hz, hu], rfl, fun _ => hP⟩ (hc := by first | exact Nat.zero_le _ | (dsimp only [rm]; omega)) (hs := by first | exact Nat.zero_le _ | (dsimp only [rm]; omega))
  intro fu
  induction fu with
  | zero =>
    intro s u hP hO h1 h2
    exact fin s u hP (by omega)
  | succ fu ih =>
    intro s u hP hO h1 h2
    by_cases hlt : u.1 < sz
    · have e1 := hP.1
      have hs1 : s.1 < sz := by omega
      unfold rdl
      rw [if_pos hlt]
      refine gl_aload_n dX0_goesOn_20 rfl ?_
      refine gl_get (k := 14) dX0_goesOn_21 rfl (rfl : vwCl[0]? = some (RX0, TX0, 30)) in_X0 (by decide) q127 rfl ?_
      refine gl_aload_n dX0_goesOn_24 rfl ?_
      refine gl_alen dX0_goesOn_25 hT.lk ?_
      refine gl_icmp_ge (tgt := 82) dX0_goesOn_26 (by decide) (fun h => absurd h (nI_ge hs1 (by omega))) (fun _ => ?_)
      refine gl_aload_n dX0_goesOn_29 rfl ?_
      refine gl_callV (x_sign L hT hf hsz s (by omega)) dX0_goesOn_30 q411 q413 qs5 q74 q414 rfl hX0_sign rfl (rfl : vwCl[0]? = some (RX0, TX0, 30)) rfl rfl (rmOk (by omega) rfl) ⟨by first | exact Nat.le_refl _ | exact Nat.zero_le _ | decide | (dsimp only [rm]; omega), by first | exact Nat.le_refl _ | exact Nat.zero_le _ | decide | (dsimp only [rm]; omega)⟩ (rt1 ?_)
      rw [e1, sgn_lt hlt]
      refine gl_bipush (v := nI 32) dX0_goesOn_33 (by decide) ?_
      refine gl_icmp_ne (tgt := 51) dX0_goesOn_35 (by decide) (fun h35 => ?_) (fun h35 => ?_)
      · rw [if_neg h35]
        refine gl_aload_n dX0_goesOn_51 rfl ?_
        refine gl_callV (x_sign L hT hf hsz s (by omega)) dX0_goesOn_52 q411 q413 qs5 q74 q414 rfl hX0_sign rfl (rfl : vwCl[0]? = some (RX0, TX0, 30)) rfl rfl (rmOk (by omega) rfl) ⟨by first | exact Nat.le_refl _ | exact Nat.zero_le _ | decide | (dsimp only [rm]; omega), by first | exact Nat.le_refl _ | exact Nat.zero_le _ | decide | (dsimp only [rm]; omega)⟩ (rt1 ?_)
        rw [e1, sgn_lt hlt]
        refine gl_bipush (v := nI 113) dX0_goesOn_55 (by decide) ?_
        refine gl_icmp_ne (tgt := 70) dX0_goesOn_57 (by decide) (fun h57 => ?_) (fun h57 => ?_)
        · rw [if_neg h57]
          refine gl_aload_n dX0_goesOn_70 rfl ?_
          refine gl_callV (x_readsCard L hT hf hsz s (by omega) u hP) dX0_goesOn_71 q423 q425 qs8 q74 q426 rfl hX0_readsCard rfl (rfl : vwCl[0]? = some (RX0, TX0, 30)) rfl rfl (rmOk (by omega) rfl) ⟨by first | exact Nat.le_refl _ | exact Nat.zero_le _ | decide | (dsimp only [rm]; omega), by first | exact Nat.le_refl _ | exact Nat.zero_le _ | decide | (dsimp only [rm]; omega)⟩ ?_
          rintro _ _ ⟨s', rfl, rfl, hs', hP'⟩
          refine gl_if_ne (tgt := 20) dX0_goesOn_74 (by decide) (fun h74 => ?_) (fun h74 => ?_)
          · have ht := bI_tr h74
            rw [if_pos ht]
            obtain ⟨z1, z2, z3⟩ := tc_ok hO ht
            exact ih s' (tc g sz u).2 (hP' ht) z3 z2 (by omega)
          · have ht := bI_fa h74
            rw [if_neg (by rw [ht]; decide)]
            refine gl_aload_n dX0_goesOn_77 rfl ?_
            refine gl_get (k := 14) dX0_goesOn_78 rfl (rfl : vwCl[0]? = some (RX0, TX0, 30)) in_X0 (by decide) q127 rfl ?_
            refine gl_top (w := .int (nI s'.1)) rfl ?_
            exact gl_iret dX0_goesOn_81 rfl ⟨s', by rw [hs']; unfold rdA; rw [ht, if_neg (by decide)], rfl, fun z => by rw [ht] at z; cases z⟩ (hc := by first | exact Nat.zero_le _ | (dsimp only [rm]; omega)) (hs := by first | exact Nat.zero_le _ | (dsimp only [rm]; omega))
        · rw [if_pos h57]
          refine gl_aload_n dX0_goesOn_60 rfl ?_
          refine gl_callV (x_readsQuestion L hT hf hsz s (by omega) u hP) dX0_goesOn_61 q415 q417 qs6 q74 q418 rfl hX0_readsQuestion rfl (rfl : vwCl[0]? = some (RX0, TX0, 30)) rfl rfl (rmOk (by omega) rfl) ⟨by first | exact Nat.le_refl _ | exact Nat.zero_le _ | decide | (dsimp only [rm]; omega), by first | exact Nat.le_refl _ | exact Nat.zero_le _ | decide | (dsimp only [rm]; omega)⟩ ?_
          rintro _ _ ⟨s', rfl, rfl, hs', hP'⟩
          refine gl_if_ne (tgt := 20) dX0_goesOn_64 (by decide) (fun h64 => ?_) (fun h64 => ?_)
          · have ht := bI_tr h64
            rw [if_pos ht]
            obtain ⟨z1, z2, z3⟩ := tq_ok hO ht
            exact ih s' (tq g sz u).2 (hP' ht) z3 z2 (by omega)
          · have ht := bI_fa h64
            rw [if_neg (by rw [ht]; decide)]
            refine gl_goto (tgt := 77) dX0_goesOn_67 (by decide) ?_
            refine gl_aload_n dX0_goesOn_77 rfl ?_
            refine gl_get (k := 14) dX0_goesOn_78 rfl (rfl : vwCl[0]? = some (RX0, TX0, 30)) in_X0 (by decide) q127 rfl ?_
            refine gl_top (w := .int (nI s'.1)) rfl ?_
            exact gl_iret dX0_goesOn_81 rfl ⟨s', by rw [hs']; unfold rdA; rw [ht, if_neg (by decide)], rfl, fun z => by rw [ht] at z; cases z⟩ (hc := by first | exact Nat.zero_le _ | (dsimp only [rm]; omega)) (hs := by first | exact Nat.zero_le _ | (dsimp only [rm]; omega))
      · rw [if_pos h35]
        refine gl_aload_n dX0_goesOn_38 rfl ?_
        refine gl_dup dX0_goesOn_39 rfl ?_
        refine gl_get (k := 14) dX0_goesOn_40 rfl (rfl : vwCl[0]? = some (RX0, TX0, 30)) in_X0 (by decide) q127 rfl ?_
        refine gl_top (w := .int (nI s.1)) rfl ?_
        refine gl_iconst (v := nI 1) dX0_goesOn_43 (by decide) ?_
        refine gl_iadd dX0_goesOn_44 ?_
        rw [nI_add]
        refine gl_put (k := 14) dX0_goesOn_45 rfl (rfl : vwCl[0]? = some (RX0, TX0, 30)) in_X0 tyX0 tyX0_ok nmX0 (by decide) rfl q127 (fun _ _ => ⟨rfl, rfl⟩) rfl ?_
        refine gl_goto (tgt := 20) dX0_goesOn_48 (by decide) ?_
        refine gl_mem (μ1 := mX o (rsX x p (s.1 + 1, s.2))) rfl ?_
        exact ih (s.1 + 1, s.2) (u.1 + 1, u.2) ⟨by show s.1 + 1 = u.1 + 1; omega, hP.2⟩ hO (by show u.1 + 1 ≤ sz; omega) (by show sz ≤ u.1 + 1 + fu; omega)
    · unfold rdl
      rw [if_neg hlt]
      exact fin s u hP (by omega)
theorem x_goesOn (hT : Own o τ p tag (.inl (1, sz, f))) (hf : ∀ i, i < sz → f i = g i) (hsz : sz ≤ 80) (b : Nat → Int32) : Ct yX0_goesOn gX0_goesOn (L + 14) 0 0 [.ref 1, .ref p] (mX o x) (goP o x p (rdl g sz sz (0, blk b 393))) := by
  refine Ct.of rfl rfl rfl rfl rfl ?_
  refine gl_aload_n dX0_goesOn_0 rfl ?_
  refine gl_aload_n dX0_goesOn_1 rfl ?_
  refine gl_put (k := 13) dX0_goesOn_2 rfl (rfl : vwCl[0]? = some (RX0, TX0, 30)) in_X0 tyX0 tyX0_ok nmX0 (by decide) rfl q126 (fun _ _ => ⟨rfl, rfl⟩) rfl ?_
  refine gl_aload_n dX0_goesOn_5 rfl ?_
  refine gl_iconst (v := nI 0) dX0_goesOn_6 (by decide) ?_
  refine gl_put (k := 14) dX0_goesOn_7 rfl (rfl : vwCl[0]? = some (RX0, TX0, 30)) in_X0 tyX0 tyX0_ok nmX0 (by decide) rfl q127 (fun _ _ => ⟨rfl, rfl⟩) rfl ?_
  refine gl_aload_n dX0_goesOn_10 rfl ?_
  refine gl_iconst (v := nI 0) dX0_goesOn_11 (by decide) ?_
  refine gl_put (k := 15) dX0_goesOn_12 rfl (rfl : vwCl[0]? = some (RX0, TX0, 30)) in_X0 tyX0 tyX0_ok nmX0 (by decide) rfl q128 (fun _ _ => ⟨rfl, rfl⟩) rfl ?_
  refine gl_aload_n dX0_goesOn_15 rfl ?_
  refine gl_iconst (v := nI 0) dX0_goesOn_16 (by decide) ?_
  refine gl_put (k := 17) dX0_goesOn_17 rfl (rfl : vwCl[0]? = some (RX0, TX0, 30)) in_X0 tyX0 tyX0_ok nmX0 (by decide) rfl q130 (fun _ _ => ⟨rfl, rfl⟩) rfl ?_
  refine gl_mem (μ1 := mX o (rsX x p (0, 0, 0, x.2.2.1 9, x.2.2.1 10))) rfl ?_
  refine x_goL L hT hf hsz sz (0, 0, 0, x.2.2.1 9, x.2.2.1 10) (0, blk b 393) ⟨rfl, rfl, rfl, Nat.zero_le _, Nat.zero_le _, fun c hc => absurd hc (Nat.not_lt_zero c), fun q hq => absurd hq (Nat.not_lt_zero q)⟩ (blk_ok b) (Nat.zero_le _) (by show sz ≤ 0 + sz; omega)
end XW

