/-! the component: faults of texts, libraries laid -/
set_option maxRecDepth 100000
theorem thn_le {r : Bool × PS} {f : PS → Bool × PS} {a : Nat} (h : r.2.1 ≤ a) (hf : ∀ v, (f v).2.1 ≤ v.1 + 1) : (thn r f).2.1 ≤ a + 1 := by
  unfold thn
  split
  · exact Nat.le_trans (hf _) (by omega)
  · omega
theorem tc_le (g : Nat → Int32) (sz : Nat) (u : PS) : (tc g sz u).2.1 ≤ u.1 + 5 := by
  unfold tc
  split
  · show u.1 ≤ _; omega
  · have h1 := tk_le g sz (u.1 + 1, upd (upd u.2 (3 + ix (u.2 0)) (knd (bt g sz u.1))) 0 (u.2 0 + nI 1)) (10 + ix (u.2 0)) (nI 0) (nI 9)
    have h2 := thn_le h1 (f := fun v => tk g sz v (17 + ix (u.2 0)) (nI 0) (nI 3)) (fun v => tk_le _ _ _ _ _ _)
    have h3 := thn_le h2 (f := fun v => tk g sz v (24 + ix (u.2 0)) (nI 0) (nI 9)) (fun v => tk_le _ _ _ _ _ _)
    refine Nat.le_trans h3 ?_
    show u.1 + 1 + 1 + 1 + 1 ≤ _
    omega
theorem tq_le (g : Nat → Int32) (sz : Nat) (u : PS) : (tq g sz u).2.1 ≤ u.1 + 5 := by
  unfold tq
  split
  · show u.1 ≤ _; omega
  · have h1 := tk_le g sz (u.1 + 1, upd u.2 1 (u.2 1 + nI 1)) (31 + ix (u.2 1)) (nI 0) (nI 5)
    have h2 := thn_le h1 (f := fun v => tk g sz v (38 + ix (u.2 1)) (nI 0) (nI 9)) (fun v => tk_le _ _ _ _ _ _)
    have h3 := thn_le h2 (f := fun v => tk g sz v (45 + ix (u.2 1)) (v.2 (38 + ix (u.2 1))) (nI 9)) (fun v => tk_le _ _ _ _ _ _)
    have h4 := thn_le h3 (f := fun v => tk g sz v (52 + ix (u.2 1)) (nI 1) (nI 9)) (fun v => tk_le _ _ _ _ _ _)
    exact h4
theorem rdl_le (g : Nat → Int32) (sz : Nat) : ∀ (fu : Nat) (u : PS), (rdl g sz fu u).2.1 ≤ u.1 + 5 * fu := by
  intro fu
  induction fu with
  | zero => intro u; show u.1 ≤ _; omega
  | succ fu ih =>
    intro u
    unfold rdl
    by_cases h1 : u.1 < sz
    · rw [if_pos h1]
      by_cases h2 : bt g sz u.1 = nI 32
      · rw [if_pos h2]
        have := ih (u.1 + 1, u.2)
        dsimp only at this
        omega
      · rw [if_neg h2]
        by_cases h3 : bt g sz u.1 = nI 113
        · simp only [if_pos h3]
          have a1 := ih (tq g sz u).2
          have a2 := tq_le g sz u
          by_cases h4 : (tq g sz u).1 = true
          · rw [if_pos h4]; omega
          · rw [if_neg h4]; omega
        · simp only [if_neg h3]
          have a1 := ih (tc g sz u).2
          have a2 := tc_le g sz u
          by_cases h4 : (tc g sz u).1 = true
          · rw [if_pos h4]; omega
          · rw [if_neg h4]; omega
    · rw [if_neg h1]
      show u.1 ≤ _; omega
theorem rdl_ok (g : Nat → Int32) (sz : Nat) : ∀ (fu : Nat) (u : PS), okr u.2 → (rdl g sz fu u).1 = true → okr (rdl g sz fu u).2.2 := by
  intro fu
  induction fu with
  | zero => intro u hu _; exact hu
  | succ fu ih =>
    intro u hu h
    unfold rdl at h ⊢
    by_cases h1 : u.1 < sz
    · rw [if_pos h1] at h ⊢
      by_cases h2 : bt g sz u.1 = nI 32
      · rw [if_pos h2] at h ⊢
        exact ih (u.1 + 1, u.2) hu h
      · rw [if_neg h2] at h ⊢
        by_cases h3 : bt g sz u.1 = nI 113
        · simp only [if_pos h3] at h ⊢
          by_cases h4 : (tq g sz u).1 = true
          · rw [if_pos h4] at h ⊢
            exact ih _ (tq_ok hu h4).2.2 h
          · rw [if_neg h4] at h
            exact absurd h h4
        · simp only [if_neg h3] at h ⊢
          by_cases h4 : (tc g sz u).1 = true
          · rw [if_pos h4] at h ⊢
            exact ih _ (tc_ok hu h4).2.2 h
          · rw [if_neg h4] at h
            exact absurd h h4
    · rw [if_neg h1]
      exact hu
theorem rdA_9 {r : Bool × PS} (hp : r.2.1 < 2 ^ 31) (h : rdA r = -9) : r.1 = true := by
  unfold rdA at h
  cases e : r.1 with
  | true => rfl
  | false =>
    rw [e, if_neg (by decide)] at h
    exact absurd h (nI_ne9 hp)
theorem Lb_lib {v : Nat → Int32} {n m : Nat} (h : okr v) (h0 : v 0 = nI n) (hn : n ≤ 7) (h1 : v 1 = nI m) (hm : m ≤ 7) : Lb v n m 0 := by
  have rgv : ∀ a b, a + 7 ≤ 59 → (∀ i, i < 7 → mx (a + i) = b) → rg v a b := fun a b ha hb c hc => by
    obtain ⟨k, hk, e⟩ := h.1 (a + c) (by omega)
    rw [hb c hc] at hk
    exact ⟨k, hk, e⟩
  have h2 : v 2 = nI 0 := by
    obtain ⟨k, hk, e⟩ := h.1 2 (by omega)
    have : mx 2 = 0 := rfl
    rw [e, show k = 0 by omega]
  have m9 : ∀ q, q < 7 → v (66 + q) = -9 := fun q hq => h.2 _ (by omega) (by omega)
  exact ⟨⟨h0, hn⟩, ⟨h1, hm⟩, ⟨h2, by omega⟩, rgv 3 5 (by omega) (by decide), rgv 10 9 (by omega) (by decide), rgv 17 3 (by omega) (by decide), rgv 24 9 (by omega) (by decide), rgv 31 5 (by omega) (by decide), rgv 38 9 (by omega) (by decide), rgv 45 9 (by omega) (by decide), rgv 52 9 (by omega) (by decide), fun q hq => Or.inl (h.2 _ (by omega) (by omega)), ⟨fun q hq => Or.inl (m9 q (by omega)), fun q p hq hp z => absurd (m9 q (by omega)) z⟩, fun j hj => absurd hj (Nat.not_lt_zero j)⟩
def lbX (x : XY) (p : Nat) (s : RS) (a b c : Int32) (f6 f7 f8 : Nat → Int32) (r5 r13 : Nat → Option Nat) : XY := (fun k => if k = 7 then a else if k = 9 then b else if k = 19 then c else if k = 14 then nI s.1 else if k = 15 then nI s.2.1 else if k = 17 then nI s.2.2.1 else x.1 k, x.2.1, fun k => if k = 6 then f6 else if k = 7 then f7 else if k = 8 then f8 else if k = 9 then s.2.2.2.1 else if k = 10 then s.2.2.2.2 else x.2.2.1 k, fun k => if k = 5 then r5 else if k = 13 then r13 else x.2.2.2.1 k, some p)
def nulR (r : Nat → Option Nat) (k : Nat) : Nat → Option Nat := fun j => if j < k then none else r j
theorem nul_0 (r : Nat → Option Nat) : nulR r 0 = r := by
  funext j
  simp [nulR]
theorem nul_s (r : Nat → Option Nat) (k : Nat) : va_up (nulR r k) k none = nulR r (k + 1) := by
  funext j
  simp only [va_up, nulR]
  by_cases h : j = k
  · rw [if_pos h, if_pos (by omega)]
  · rw [if_neg h]
    by_cases h2 : j < k
    · rw [if_pos h2, if_pos (by omega)]
    · rw [if_neg h2, if_neg (by omega)]
section XY
variable (L : Nat) {o : OX} {τ : Nat → Nat} {x : XY} {y : MY} {n m t : Nat}
theorem tk_card {kd : Nat} (hk : kd ≤ 5) (n s h g : Int32) : ∀ (base : Nat) (z : State), NX base z → takes z 2 (.inr (.inr (2 + kd, cdO n s h g))) := fun base z hz => by
  match kd, hk with
  | 0, _ => exact ⟨by omega, _, rfl, Or.inl rfl⟩
  | 1, _ => exact ⟨by omega, _, rfl, Or.inr (hz.1 _ n1444)⟩
  | 2, _ => exact ⟨by omega, _, rfl, Or.inr (hz.1 _ n1445)⟩
  | 3, _ => exact ⟨by omega, _, rfl, Or.inr (hz.1 _ n1446)⟩
  | 4, _ => exact ⟨by omega, _, rfl, Or.inr (hz.1 _ n1447)⟩
  | 5, _ => exact ⟨by omega, _, rfl, Or.inr (hz.1 _ n1448)⟩
theorem x_fault (hV : RV o τ x y n m t) (r : Int32) : Ct yX0_fault gX0_fault (L + 15) 0 0 [.ref 1, .int r] (mX o x) (XR o (sp_fault y r)) := by
  refine Ct.of rfl rfl rfl rfl rfl ?_
  unfold sp_fault
  refine gl_iload_n dX0_fault_0 rfl ?_
  refine gl_callS (x_isText L _ _) dX0_fault_1 q396 q397 q74 q398 rfl hX0_isText rfl rfl (rmOk (by omega) rfl) ⟨by first | exact Nat.le_refl _ | exact Nat.zero_le _ | decide | (dsimp only [rm]; omega), by first | exact Nat.le_refl _ | exact Nat.zero_le _ | decide | (dsimp only [rm]; omega)⟩ (rt1 ?_)
  refine gl_if_ne (tgt := 9) dX0_fault_4 (by decide) (fun h4 => ?_) (fun h4 => ?_)
  · have hr := bI_tr h4
    rw [if_pos hr]
    obtain ⟨k, -, hk, rfl⟩ := inR_nat (a := 0) (b := 3) (by omega) (by omega) hr
    unfold tsz
    rw [ix_nI (show k < 100 by omega)]
    rcases hV.text k (by omega) with ⟨e, es⟩ | ⟨p, sz, f, e, hO, es, hs, hf⟩
    · rw [es, if_pos (by decide)]
      refine gl_aload_n dX0_fault_9 rfl ?_
      refine gl_get (k := 6) dX0_fault_10 rfl (rfl : vwCl[0]? = some (RX0, TX0, 30)) in_X0 (by decide) q118 rfl ?_
      refine gl_iload_n dX0_fault_13 rfl ?_
      refine gl_aald (j := k) dX0_fault_14 rfl rfl (by omega) e ?_
      refine gl_ifnonnullN dX0_fault_15 ?_
      refine gl_aload_n dX0_fault_18 rfl ?_
      refine gl_iconst (v := nI 1) dX0_fault_19 (by decide) ?_
      refine gl_callV (x_found L o x 1 (by omega)) dX0_fault_20 q301 q303 qs2 q74 q304 rfl hX0_found rfl (rfl : vwCl[0]? = some (RX0, TX0, 30)) rfl rfl (rmOk (by omega) rfl) ⟨by first | exact Nat.le_refl _ | exact Nat.zero_le _ | decide | (dsimp only [rm]; omega), by first | exact Nat.le_refl _ | exact Nat.zero_le _ | decide | (dsimp only [rm]; omega)⟩ (rt1 ?_)
      refine gl_goto (tgt := 36) dX0_fault_23 (by decide) ?_
      exact gl_iret dX0_fault_36 rfl (XR.ofnd 1 (by omega) hV) (hc := by first | exact Nat.zero_le _ | (dsimp only [rm]; omega)) (hs := by first | exact Nat.zero_le _ | (dsimp only [rm]; omega))
    · rw [es, if_neg (nI_pos (by omega)), ix_nI (show sz < 100 by omega)]
      refine gl_aload_n dX0_fault_9 rfl ?_
      refine gl_get (k := 6) dX0_fault_10 rfl (rfl : vwCl[0]? = some (RX0, TX0, 30)) in_X0 (by decide) q118 rfl ?_
      refine gl_iload_n dX0_fault_13 rfl ?_
      refine gl_aald (j := k) dX0_fault_14 rfl rfl (by omega) e ?_
      refine gl_ifnonnull (tgt := 26) dX0_fault_15 (by decide) ?_
      refine gl_aload_n dX0_fault_26 rfl ?_
      refine gl_aload_n dX0_fault_27 rfl ?_
      refine gl_get (k := 6) dX0_fault_28 rfl (rfl : vwCl[0]? = some (RX0, TX0, 30)) in_X0 (by decide) q118 rfl ?_
      refine gl_iload_n dX0_fault_31 rfl ?_
      refine gl_aald (j := k) dX0_fault_32 rfl rfl (by omega) e ?_
      refine gl_callV (x_goesOn L (g := tg y k) hO hf hs (y.2.2 27)) dX0_fault_33 q407 q409 qs4 q74 q410 rfl hX0_goesOn rfl (rfl : vwCl[0]? = some (RX0, TX0, 30)) rfl rfl (rmOk (by omega) rfl) ⟨by first | exact Nat.le_refl _ | exact Nat.zero_le _ | decide | (dsimp only [rm]; omega), by first | exact Nat.le_refl _ | exact Nat.zero_le _ | decide | (dsimp only [rm]; omega)⟩ ?_
      rintro _ _ ⟨s, rfl, rfl, -⟩
      exact gl_iret dX0_fault_36 rfl ⟨rfl, o, rsX x p s, τ, n, m, t, rfl, ⟨rfl, rfl⟩, (show RV o τ (rsX x p s) (rdS y _) n m t from hV)⟩ (hc := by first | exact Nat.zero_le _ | (dsimp only [rm]; omega)) (hs := by first | exact Nat.zero_le _ | (dsimp only [rm]; omega))
  · rw [if_neg (by simp [bI_fa h4])]
    refine gl_iconst (v := (-1)) dX0_fault_7 (by decide) ?_
    exact gl_iret dX0_fault_8 rfl (XR.same hV) (hc := by first | exact Nat.zero_le _ | (dsimp only [rm]; omega)) (hs := by first | exact Nat.zero_le _ | (dsimp only [rm]; omega))
theorem x_library (hV : RV o τ x y n m t) (r : Int32) : Ct yX0_library gX0_library (L + 16) 7 28 [.ref 1, .int r] (mX o x) (XR o (sp_library y r)) := by
  refine Ct.of rfl rfl rfl rfl rfl ?_
  have h33 := hV.h33
  unfold sp_library
  refine gl_iload_n dX0_library_0 rfl ?_
  refine gl_callS (x_isText L _ _) dX0_library_1 q396 q397 q74 q398 rfl hX0_isText rfl rfl (rmOk (by omega) rfl) ⟨by first | exact Nat.le_refl _ | exact Nat.zero_le _ | decide | (dsimp only [rm]; omega), by first | exact Nat.le_refl _ | exact Nat.zero_le _ | decide | (dsimp only [rm]; omega)⟩ (rt1 ?_)
  refine gl_if_ne (tgt := 9) dX0_library_4 (by decide) (fun h4 => ?_) (fun h4 => ?_)
  · have hr := bI_tr h4
    rw [if_pos hr]
    obtain ⟨k, -, hk, rfl⟩ := inR_nat (a := 0) (b := 3) (by omega) (by omega) hr
    unfold tsz
    rw [ix_nI (show k < 100 by omega)]
    rcases hV.text k (by omega) with ⟨e, es⟩ | ⟨p, sz, f, e, hO, es, hs, hf⟩
    · rw [es, if_pos (by decide)]
      refine gl_aload_n dX0_library_9 rfl ?_
      refine gl_get (k := 6) dX0_library_10 rfl (rfl : vwCl[0]? = some (RX0, TX0, 30)) in_X0 (by decide) q118 rfl ?_
      refine gl_iload_n dX0_library_13 rfl ?_
      refine gl_aald (j := k) dX0_library_14 rfl rfl (by omega) e ?_
      refine gl_ifnonnullN dX0_library_15 ?_
      refine gl_aload_n dX0_library_18 rfl ?_
      refine gl_iconst (v := nI 1) dX0_library_19 (by decide) ?_
      refine gl_callV (x_found L o x 1 (by omega)) dX0_library_20 q301 q303 qs2 q74 q304 rfl hX0_found rfl (rfl : vwCl[0]? = some (RX0, TX0, 30)) rfl rfl (rmOk (by omega) rfl) ⟨by first | exact Nat.le_refl _ | exact Nat.zero_le _ | decide | (dsimp only [rm]; omega), by first | exact Nat.le_refl _ | exact Nat.zero_le _ | decide | (dsimp only [rm]; omega)⟩ (rt1 ?_)
      exact gl_iret dX0_library_23 rfl (XR.ofnd 1 (by omega) hV) (hc := by first | exact Nat.zero_le _ | (dsimp only [rm]; omega)) (hs := by first | exact Nat.zero_le _ | (dsimp only [rm]; omega))
    · rw [es, if_neg (nI_pos (by omega)), ix_nI (show sz < 100 by omega)]
      refine gl_aload_n dX0_library_9 rfl ?_
      refine gl_get (k := 6) dX0_library_10 rfl (rfl : vwCl[0]? = some (RX0, TX0, 30)) in_X0 (by decide) q118 rfl ?_
      refine gl_iload_n dX0_library_13 rfl ?_
      refine gl_aald (j := k) dX0_library_14 rfl rfl (by omega) e ?_
      refine gl_ifnonnull (tgt := 24) dX0_library_15 (by decide) ?_
      refine gl_aload_n dX0_library_24 rfl ?_
      refine gl_aload_n dX0_library_25 rfl ?_
      refine gl_get (k := 6) dX0_library_26 rfl (rfl : vwCl[0]? = some (RX0, TX0, 30)) in_X0 (by decide) q118 rfl ?_
      refine gl_iload_n dX0_library_29 rfl ?_
      refine gl_aald (j := k) dX0_library_30 rfl rfl (by omega) e ?_
      refine gl_callV (x_goesOn L (g := tg y k) hO hf hs (y.2.2 27)) dX0_library_31 q407 q409 qs4 q74 q410 rfl hX0_goesOn rfl (rfl : vwCl[0]? = some (RX0, TX0, 30)) rfl rfl (rmOk (by omega) rfl) ⟨by first | exact Nat.le_refl _ | exact Nat.zero_le _ | decide | (dsimp only [rm]; omega), by first | exact Nat.le_refl _ | exact Nat.zero_le _ | decide | (dsimp only [rm]; omega)⟩ ?_
      have ele := rdl_le (tg y k) sz sz (0, blk (y.2.2 27) 393)
      have eok := rdl_ok (tg y k) sz sz (0, blk (y.2.2 27) 393) (blk_ok _)
      rw [show rdR y k sz = rdl (tg y k) sz sz (0, blk (y.2.2 27) 393) from rfl]
      generalize rdl (tg y k) sz sz (0, blk (y.2.2 27) 393) = R at ele eok ⊢
      dsimp only at ele
      rintro _ _ ⟨s, rfl, rfl, hP⟩
      refine gl_bipush (v := (-9)) dX0_library_34 (by decide) ?_
      refine gl_icmp_eq (tgt := 42) dX0_library_36 (by decide) (fun h36 => ?_) (fun h36 => ?_)
      · rw [if_pos h36]
        have hR : R.1 = true := rdA_9 (by omega) h36
        replace hP := hP hR
        replace eok := eok hR
        obtain ⟨-, ec, eq, hc7, hq7, hC, hQ⟩ := hP
        have hvis := hV.vis
        generalize R.2 = u at ec eq hC hQ eok ⊢
        obtain ⟨s1, N, M, rc, ra⟩ := s
        dsimp only at ec eq hc7 hq7 hC hQ
        have hLb := Lb_lib eok ec hc7 eq hq7
        have wlo : ∀ a, a < 393 → va_cpy u.2 (y.2.2 23) 0 0 393 a = u.2 a := fun a ha => by rw [pk_cpy_in (by omega) (by omega), Nat.zero_add, Nat.sub_zero]
        refine gl_mem (μ1 := mX o (lbX x p (s1, N, M, rc, ra) (x.1 7) (x.1 9) (x.1 19) (x.2.2.1 6) (x.2.2.1 7) (x.2.2.1 8) (x.2.2.2.1 5) (x.2.2.2.1 13))) rfl ?_
        refine gl_aload_n dX0_library_42 rfl ?_
        refine gl_aload_n dX0_library_43 rfl ?_
        refine gl_get (k := 15) dX0_library_44 rfl (rfl : vwCl[0]? = some (RX0, TX0, 30)) in_X0 (by decide) q128 rfl ?_
        refine gl_put (k := 7) dX0_library_47 rfl (rfl : vwCl[0]? = some (RX0, TX0, 30)) in_X0 tyX0 tyX0_ok nmX0 (by decide) rfl q119 (fun _ _ => ⟨rfl, rfl⟩) rfl ?_
        refine gl_iconst (v := nI 0) dX0_library_50 (by decide) ?_
        refine gl_istore_n dX0_library_51 rfl rfl ?_
        refine gl_mem (μ1 := mX o (lbX x p (s1, N, M, rc, ra) (nI N) (x.1 9) (x.1 19) (x.2.2.1 6) (x.2.2.1 7) (x.2.2.1 8) (x.2.2.2.1 5) (x.2.2.2.1 13))) rfl ?_
        have fin : ∀ (o' : OX) (τ' : Nat → Nat) (r5 : Nat → Option Nat), 33 ≤ o'.1 → (o'.2.1 = o.2.1 ∧ o'.2.2.1 = o.2.2.1) → (∀ k tag c, (tag < 30 ∨ 40 ≤ tag) → Own o τ k tag c → Own o' τ' k tag c) → (∀ c, c < N → crdR o' τ' u.2 (r5 c) c) → GL gX0_library (rm (L + 16) 7 28) (XR o (u.2 0, libS y u)) N (4 * N) 114 [some (.ref 1), some (.int (nI k)), some (.int (nI N))] [] (mX o' (lbX x p (s1, N, M, rc, ra) (nI N) (x.1 9) (x.1 19) (x.2.2.1 6) (x.2.2.1 7) (x.2.2.1 8) r5 (x.2.2.2.1 13))) := by
          intro o' τ' r5 h33' ho H hcr
          refine gl_aload_n dX0_library_114 rfl ?_
          refine gl_aload_n dX0_library_115 rfl ?_
          refine gl_get (k := 17) dX0_library_116 rfl (rfl : vwCl[0]? = some (RX0, TX0, 30)) in_X0 (by decide) q130 rfl ?_
          refine gl_put (k := 9) dX0_library_119 rfl (rfl : vwCl[0]? = some (RX0, TX0, 30)) in_X0 tyX0 tyX0_ok nmX0 (by decide) rfl q122 (fun _ _ => ⟨rfl, rfl⟩) rfl ?_
          refine gl_aload_n dX0_library_122 rfl ?_
          refine gl_get (k := 18) dX0_library_123 rfl (rfl : vwCl[0]? = some (RX0, TX0, 30)) in_X0 (by decide) q131 rfl ?_
          refine gl_iconst (v := nI 0) dX0_library_126 (by decide) ?_
          refine gl_aload_n dX0_library_127 rfl ?_
          refine gl_get (k := 10) dX0_library_128 rfl (rfl : vwCl[0]? = some (RX0, TX0, 30)) in_X0 (by decide) q123 rfl ?_
          refine gl_iconst (v := nI 0) dX0_library_131 (by decide) ?_
          refine gl_bipush (v := nI 28) dX0_library_132 (by decide) ?_
          refine gl_mem (μ1 := mX o' (lbX x p (s1, N, M, rc, ra) (nI N) (nI M) (x.1 19) (x.2.2.1 6) (x.2.2.1 7) (x.2.2.1 8) r5 (x.2.2.2.1 13))) rfl ?_
          refine gl_copy (n0 := 10) (n1 := 6) (sp := 0) (dp := 0) (k := 28) dX0_library_134 q371 rfl rfl rfl rfl rfl (by omega) (by omega) (by omega) (by omega) rfl (copyR (by omega)) ?_
          refine gl_mem (μ1 := mX o' (lbX x p (s1, N, M, rc, ra) (nI N) (nI M) (x.1 19) (va_cpy ra (x.2.2.1 6) 0 0 28) (x.2.2.1 7) (x.2.2.1 8) r5 (x.2.2.2.1 13))) rfl ?_
          refine gl_iconst (v := nI 0) dX0_library_137 (by decide) ?_
          refine gl_istore_n dX0_library_138 rfl rfl ?_
          refine gl_mem (μ1 := mX o' (lbX x p (s1, N, M, rc, ra) (nI N) (nI M) (x.1 19) (va_cpy ra (x.2.2.1 6) 0 0 28) (fillI (x.2.2.1 7) 0 (-9) 0) (fillI (x.2.2.1 8) 0 (-9) 0) r5 (x.2.2.2.1 13))) (by rw [fill_0, fill_0]) ?_
          refine gl_loop (fun i => [some (.ref 1), some (.int (nI k)), some (.int (nI i))]) (fun i => mX o' (lbX x p (s1, N, M, rc, ra) (nI N) (nI M) (x.1 19) (va_cpy ra (x.2.2.1 6) 0 0 28) (fillI (x.2.2.1 7) 0 (-9) i) (fillI (x.2.2.1 8) 0 (-9) i) r5 (x.2.2.2.1 13))) 7 ?_ ?_
          · intro i hi ih
            refine gl_iload_n dX0_library_139 rfl ?_
            refine gl_bipush (v := nI 7) dX0_library_140 (by decide) ?_
            refine gl_icmp_ge (tgt := 167) dX0_library_142 (by decide) (fun h => absurd h (nI_ge hi (by omega))) (fun _ => ?_)
            refine gl_aload_n dX0_library_145 rfl ?_
            refine gl_get (k := 11) dX0_library_146 rfl (rfl : vwCl[0]? = some (RX0, TX0, 30)) in_X0 (by decide) q124 rfl ?_
            refine gl_iload_n dX0_library_149 rfl ?_
            refine gl_bipush (v := (-9)) dX0_library_150 (by decide) ?_
            refine gl_iast (j := i) dX0_library_152 rfl rfl (by omega) ?_
            refine gl_aload_n dX0_library_153 rfl ?_
            refine gl_get (k := 12) dX0_library_154 rfl (rfl : vwCl[0]? = some (RX0, TX0, 30)) in_X0 (by decide) q125 rfl ?_
            refine gl_iload_n dX0_library_157 rfl ?_
            refine gl_bipush (v := (-9)) dX0_library_158 (by decide) ?_
            refine gl_iast (j := i) dX0_library_160 rfl rfl (by omega) ?_
            refine gl_iinc (v := (nI (i + 1))) dX0_library_161 rfl (nI_1 _) rfl rfl ?_
            refine gl_goto (tgt := 139) dX0_library_164 (by decide) ?_
            refine gl_mem ?_ ih
            rw [← fill_s, ← fill_s, Nat.zero_add]
            rfl
          · refine gl_iload_n dX0_library_139 rfl ?_
            refine gl_bipush (v := nI 7) dX0_library_140 (by decide) ?_
            refine gl_icmp_ge (tgt := 167) dX0_library_142 (by decide) (fun _ => ?_) (fun h => absurd ((by decide)) h)
            refine gl_aload_n dX0_library_167 rfl ?_
            refine gl_iconst (v := nI 0) dX0_library_168 (by decide) ?_
            refine gl_put (k := 19) dX0_library_169 rfl (rfl : vwCl[0]? = some (RX0, TX0, 30)) in_X0 tyX0 tyX0_ok nmX0 (by decide) rfl q132 (fun _ _ => ⟨rfl, rfl⟩) rfl ?_
            refine gl_iconst (v := nI 0) dX0_library_172 (by decide) ?_
            refine gl_istore_n dX0_library_173 rfl rfl ?_
            refine gl_mem (μ1 := mX o' (lbX x p (s1, N, M, rc, ra) (nI N) (nI M) (nI 0) (va_cpy ra (x.2.2.1 6) 0 0 28) (fillI (x.2.2.1 7) 0 (-9) 7) (fillI (x.2.2.1 8) 0 (-9) 7) r5 (nulR (x.2.2.2.1 13) 0))) (by rw [nul_0]; rfl) ?_
            refine gl_loop (fun i => [some (.ref 1), some (.int (nI k)), some (.int (nI i))]) (fun i => mX o' (lbX x p (s1, N, M, rc, ra) (nI N) (nI M) (nI 0) (va_cpy ra (x.2.2.1 6) 0 0 28) (fillI (x.2.2.1 7) 0 (-9) 7) (fillI (x.2.2.1 8) 0 (-9) 7) r5 (nulR (x.2.2.2.1 13) i))) 3 ?_ ?_
            · intro i hi ih
              refine gl_iload_n dX0_library_174 rfl ?_
              refine gl_iconst (v := nI 3) dX0_library_175 (by decide) ?_
              refine gl_icmp_ge (tgt := 192) dX0_library_176 (by decide) (fun h => absurd h (nI_ge hi (by omega))) (fun _ => ?_)
              refine gl_aload_n dX0_library_179 rfl ?_
              refine gl_get (k := 22) dX0_library_180 rfl (rfl : vwCl[0]? = some (RX0, TX0, 30)) in_X0 (by decide) q135 rfl ?_
              refine gl_iload_n dX0_library_183 rfl ?_
              refine gl_null dX0_library_184 ?_
              refine gl_aastN (j := i) dX0_library_185 rfl rfl (by omega) ?_
              refine gl_iinc (v := (nI (i + 1))) dX0_library_186 rfl (nI_1 _) rfl rfl ?_
              refine gl_goto (tgt := 174) dX0_library_189 (by decide) ?_
              refine gl_mem ?_ ih
              rw [← nul_s]
              rfl
            · refine gl_iload_n dX0_library_174 rfl ?_
              refine gl_iconst (v := nI 3) dX0_library_175 (by decide) ?_
              refine gl_icmp_ge (tgt := 192) dX0_library_176 (by decide) (fun _ => ?_) (fun h => absurd ((by decide)) h)
              refine gl_aload_n dX0_library_192 rfl ?_
              refine gl_get (k := 7) dX0_library_193 rfl (rfl : vwCl[0]? = some (RX0, TX0, 30)) in_X0 (by decide) q119 rfl ?_
              refine gl_top (w := .int (u.2 0)) (congrArg Value.int ec.symm) ?_
              exact gl_iret dX0_library_196 rfl ⟨rfl, o', _, τ', N, M, 0, rfl, ho, ⟨h33', ⟨⟨rfl, rfl, rfl⟩, fun c hc => crd_w (hcr c hc) (by omega) (fun a _ _ => wlo a (by omega)), fun q hq j hj => (show va_cpy ra (x.2.2.1 6) 0 0 28 (4 * q + j) = va_cpy u.2 (y.2.2 23) 0 0 393 (31 + 7 * j + q) by rw [wlo _ (by omega), pk_cpy_in (by omega) (by omega), Nat.zero_add, Nat.sub_zero]; exact hQ q hq j hj), fun q hq => (show fillI (x.2.2.1 7) 0 (-9) 7 q = va_cpy u.2 (y.2.2 23) 0 0 393 (59 + q) by rw [wlo _ (by omega), eok.2 _ (by omega) (by omega)]; unfold fillI; rw [if_pos (by omega)]), fun q hq => (show fillI (x.2.2.1 8) 0 (-9) 7 q = va_cpy u.2 (y.2.2 23) 0 0 393 (66 + q) by rw [wlo _ (by omega), eok.2 _ (by omega) (by omega)]; unfold fillI; rw [if_pos (by omega)]), fun q hq => absurd hq (Nat.not_lt_zero q), fun q hq => absurd hq (Nat.not_lt_zero q)⟩, (show Lb (va_cpy u.2 (y.2.2 23) 0 0 393) N M 0 from Lb_lib ⟨fun a ha => by rw [wlo a (by omega)]; exact eok.1 a ha, fun a h1 h2 => by rw [wlo a (by omega)]; exact eok.2 a h1 h2⟩ ((wlo 0 (by omega)).trans ec) hc7 ((wlo 1 (by omega)).trans eq) hq7), fun r hr => (hV.row r hr).tr (fun k c => H k _ c (by omega)), fun r hr => (hV.text r hr).tr (fun k c => H k _ c (by omega)), fun k hk => Or.inl ⟨(show nulR (x.2.2.2.1 13) 3 k = none by unfold nulR; rw [if_pos hk]), (show fillI (y.2.2 25) 0 0 3 k = 0 by unfold fillI; rw [if_pos (by omega)])⟩, hvis⟩⟩ (hc := by first | exact Nat.zero_le _ | (dsimp only [rm]; omega)) (hs := by first | exact Nat.zero_le _ | (dsimp only [rm]; omega))
        have loop : ∀ (d j : Nat), j + d = N → ∀ (o' : OX) (τ' : Nat → Nat) (r5 : Nat → Option Nat), 33 ≤ o'.1 → (o'.2.1 = o.2.1 ∧ o'.2.2.1 = o.2.2.1) → (∀ k tag c, (tag < 30 ∨ 40 ≤ tag) → Own o τ k tag c → Own o' τ' k tag c) → (∀ c, c < j → crdR o' τ' u.2 (r5 c) c) → GL gX0_library (rm (L + 16) 7 28) (XR o (u.2 0, libS y u)) j (4 * j) 52 [some (.ref 1), some (.int (nI k)), some (.int (nI j))] [] (mX o' (lbX x p (s1, N, M, rc, ra) (nI N) (x.1 9) (x.1 19) (x.2.2.1 6) (x.2.2.1 7) (x.2.2.1 8) r5 (x.2.2.2.1 13))) := by
          intro d
          induction d with
          | zero =>
            intro j hj o' τ' r5 h33' ho H hcr
            have ej : j = N := by omega
            subst ej
            refine gl_iload_n dX0_library_52 rfl ?_
            refine gl_aload_n dX0_library_53 rfl ?_
            refine gl_get (k := 7) dX0_library_54 rfl (rfl : vwCl[0]? = some (RX0, TX0, 30)) in_X0 (by decide) q119 rfl ?_
            refine gl_icmp_ge (tgt := 114) dX0_library_57 (by decide) (fun _ => ?_) (fun h => absurd (nI_le (Nat.le_refl _) (by omega)) h)
            exact fin o' τ' r5 h33' ho H hcr
          | succ d ih =>
            intro j hj o' τ' r5 h33' ho H hcr
            obtain ⟨a1, a2, a3, a4⟩ := hC j (by omega)
            obtain ⟨kd, hkd, ekd⟩ := hLb.kind j (by omega)
            have ek2 : ix (u.2 (3 + j)) = kd := by rw [ekd]; exact ix_nI (by omega)
            refine gl_iload_n dX0_library_52 rfl ?_
            refine gl_aload_n dX0_library_53 rfl ?_
            refine gl_get (k := 7) dX0_library_54 rfl (rfl : vwCl[0]? = some (RX0, TX0, 30)) in_X0 (by decide) q119 rfl ?_
            refine gl_icmp_ge (tgt := 114) dX0_library_57 (by decide) (fun h => absurd h (nI_ge (by omega) (by omega))) (fun _ => ?_)
            refine gl_aload_n dX0_library_60 rfl ?_
            refine gl_get (k := 8) dX0_library_61 rfl (rfl : vwCl[0]? = some (RX0, TX0, 30)) in_X0 (by decide) q121 rfl ?_
            refine gl_iload_n dX0_library_64 rfl ?_
            refine gl_aload_n dX0_library_65 rfl ?_
            refine gl_get (k := 16) dX0_library_66 rfl (rfl : vwCl[0]? = some (RX0, TX0, 30)) in_X0 (by decide) q129 rfl ?_
            refine gl_iconst (v := nI 4) dX0_library_69 (by decide) ?_
            refine gl_iload_n dX0_library_70 rfl ?_
            refine gl_imul dX0_library_71 ?_
            refine gl_iald (j := (4 * j)) dX0_library_72 rfl (by simp only [nI_add, nI_mul]) (by omega) ?_
            refine gl_iload_n dX0_library_73 rfl ?_
            refine gl_aload_n dX0_library_74 rfl ?_
            refine gl_get (k := 16) dX0_library_75 rfl (rfl : vwCl[0]? = some (RX0, TX0, 30)) in_X0 (by decide) q129 rfl ?_
            refine gl_iconst (v := nI 4) dX0_library_78 (by decide) ?_
            refine gl_iload_n dX0_library_79 rfl ?_
            refine gl_imul dX0_library_80 ?_
            refine gl_iconst (v := nI 1) dX0_library_81 (by decide) ?_
            refine gl_iadd dX0_library_82 ?_
            refine gl_iald (j := ((4 * j) + 1)) dX0_library_83 rfl (by simp only [nI_add, nI_mul]) (by omega) ?_
            refine gl_aload_n dX0_library_84 rfl ?_
            refine gl_get (k := 16) dX0_library_85 rfl (rfl : vwCl[0]? = some (RX0, TX0, 30)) in_X0 (by decide) q129 rfl ?_
            refine gl_iconst (v := nI 4) dX0_library_88 (by decide) ?_
            refine gl_iload_n dX0_library_89 rfl ?_
            refine gl_imul dX0_library_90 ?_
            refine gl_iconst (v := nI 2) dX0_library_91 (by decide) ?_
            refine gl_iadd dX0_library_92 ?_
            refine gl_iald (j := ((4 * j) + 2)) dX0_library_93 rfl (by simp only [nI_add, nI_mul]) (by omega) ?_
            refine gl_aload_n dX0_library_94 rfl ?_
            refine gl_get (k := 16) dX0_library_95 rfl (rfl : vwCl[0]? = some (RX0, TX0, 30)) in_X0 (by decide) q129 rfl ?_
            refine gl_iconst (v := nI 4) dX0_library_98 (by decide) ?_
            refine gl_iload_n dX0_library_99 rfl ?_
            refine gl_imul dX0_library_100 ?_
            refine gl_iconst (v := nI 3) dX0_library_101 (by decide) ?_
            refine gl_iadd dX0_library_102 ?_
            refine gl_iald (j := ((4 * j) + 3)) dX0_library_103 rfl (by simp only [nI_add, nI_mul]) (by omega) ?_
            refine gl_callS (x_newCard L h33' kd hkd (rc (4 * j)) (nI j) (rc (4 * j + 1)) (rc (4 * j + 2)) (rc (4 * j + 3)) (a1.trans ekd)) dX0_library_104 q434 q435 q74 q436 rfl hX0_newCard rfl rfl (rmOk (by omega) rfl) ⟨by first | exact Nat.le_refl _ | exact Nat.zero_le _ | decide | (dsimp only [rm]; omega), by first | exact Nat.le_refl _ | exact Nat.zero_le _ | decide | (dsimp only [rm]; omega)⟩ (rt1 ?_)
            refine gl_aast (j := j) dX0_library_107 rfl rfl (by omega) ((lk_hi h33').trans (va_up_self _ _ _)) (tk_card hkd _ _ _ _) ?_
            refine gl_mem (μ1 := mX (oN o' (.inr (.inr (2 + kd, cdO (nI j) (rc (4 * j + 1)) (rc (4 * j + 2)) (rc (4 * j + 3)))))) (lbX x p (s1, N, M, rc, ra) (nI N) (x.1 9) (x.1 19) (x.2.2.1 6) (x.2.2.1 7) (x.2.2.1 8) (va_up r5 j (some o'.1)) (x.2.2.2.1 13))) rfl ?_
            refine gl_iinc (v := (nI (j + 1))) dX0_library_108 rfl (nI_1 _) rfl rfl ?_
            refine gl_goto (tgt := 52) dX0_library_111 (by decide) ?_
            refine ih (j + 1) (by omega) _ (va_up τ' o'.1 (30 + j)) _ (Nat.le_succ_of_le h33') ho (fun k tag c ht hO => (H k tag c ht hO).new) (fun c hc => ?_)
            by_cases ecj : c = j
            · subst ecj
              refine ⟨o'.1, va_up_self _ _ _, ?_⟩
              rw [ek2, ← a2, ← a3, ← a4]
              exact Own.news h33'
            · obtain ⟨k', b1, b2⟩ := hcr c (by omega)
              exact ⟨k', (va_up_ne _ _ ecj).trans b1, b2.new⟩
        exact loop N 0 (by omega) o τ (x.2.2.2.1 5) h33 ⟨rfl, rfl⟩ (fun _ _ _ _ q => q) (fun c hc => absurd hc (Nat.not_lt_zero c))
      · rw [if_neg h36]
        refine gl_bipush (v := (-4)) dX0_library_39 (by decide) ?_
        exact gl_iret dX0_library_41 rfl ⟨rfl, o, rsX x p s, τ, n, m, t, rfl, ⟨rfl, rfl⟩, (show RV o τ (rsX x p s) (rdS y _) n m t from hV)⟩ (hc := by first | exact Nat.zero_le _ | (dsimp only [rm]; omega)) (hs := by first | exact Nat.zero_le _ | (dsimp only [rm]; omega))
  · rw [if_neg (by simp [bI_fa h4])]
    refine gl_iconst (v := (-1)) dX0_library_7 (by decide) ?_
    exact gl_iret dX0_library_8 rfl (XR.same hV) (hc := by first | exact Nat.zero_le _ | (dsimp only [rm]; omega)) (hs := by first | exact Nat.zero_le _ | (dsimp only [rm]; omega))
end XY

