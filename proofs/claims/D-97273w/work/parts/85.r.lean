/-! shelves put in order: the component -/
set_option maxRecDepth 100000
def gdC (w : Nat → Int32) (n code : Nat) : Prop := ∀ kd, kd < 6 → kpB w n kd = true → ∃ i, i < 4 ∧ dgt code i = kd
theorem cov_iff {w : Nat → Int32} {n m t : Nat} (hL : Lb w n m t) (code : Nat) : orK w n &&& ((odS w n code 4).1 ^^^ (-1)) = 0 ↔ gdC w n code := by
  have h7 := hL.c7
  rw [orK_or (fun c hc => hL.kind c (by omega)), od_met]
  constructor
  · intro h kd hk hp
    have e := congrArg (fun v => bit v kd) h
    rw [bit_and, bit_xor, bit_orI _ _ _ (by omega) (by omega), bit_orI _ _ _ (by omega) (by omega), bit_m1 kd (by omega), show (0 : Int32) = nI 0 from rfl, bit_0 kd (by omega), decide_eq_true hk, decide_eq_true (show kd < 7 by omega), hp, Bool.true_and, Bool.true_and, Bool.true_and] at e
    by_cases h2 : ∃ i, i < 4 ∧ dgt code i = kd
    · exact h2
    · rw [decide_eq_false h2] at e
      cases e
  · intro h
    refine bit_ext (fun i hi => ?_)
    rw [bit_and, bit_xor, bit_orI _ _ _ (by omega) hi, bit_orI _ _ _ (by omega) hi, bit_m1 i hi, show (0 : Int32) = nI 0 from rfl, bit_0 i hi]
    by_cases h6 : i < 6
    · cases hp : kpB w n i with
      | false => simp
      | true => rw [decide_eq_true h6, decide_eq_true (show i < 7 by omega), decide_eq_true (h i h6 hp)]; rfl
    · rw [decide_eq_false h6]; simp
def stC (w : Nat → Int32) (n code : Nat) : Nat := sD (kcN w n) 4 0 (dgt code)
theorem cN4 {p0 p1 p2 p3 : Nat → Bool} (h : ∀ c, (p0 c).toNat + (p1 c).toNat + (p2 c).toNat + (p3 c).toNat ≤ 1) : ∀ n, cN p0 n + cN p1 n + cN p2 n + cN p3 n ≤ n
  | 0 => Nat.le_refl _
  | n + 1 => by
    have := cN4 h n
    have := h n
    show cN p0 n + (p0 n).toNat + (cN p1 n + (p1 n).toNat) + (cN p2 n + (p2 n).toNat) + (cN p3 n + (p3 n).toNat) ≤ n + 1
    omega
theorem cN_sub {p q : Nat → Bool} (h : ∀ c, p c = true → q c = true) : ∀ n, cN p n ≤ cN q n
  | 0 => Nat.le_refl _
  | n + 1 => by
    have := cN_sub h n
    have := h n
    show cN p n + (p n).toNat ≤ cN q n + (q n).toNat
    revert this
    cases p n <;> cases q n <;> simp <;> omega
theorem kcD_le (w : Nat → Int32) (n d s : Nat) : kcD (kcN w n) d s ≤ cN (fun c => w (17 + c) == nI s) n := by
  unfold kcD
  split
  · exact cN_sub (fun c h => by rw [Bool.and_eq_true] at h; exact h.2) n
  · exact Nat.zero_le _
theorem st_le {w : Nat → Int32} {n m t : Nat} (hL : Lb w n m t) (code : Nat) : stC w n code ≤ n := by
  have h4 := cN4 (p0 := fun c => w (17 + c) == nI 0) (p1 := fun c => w (17 + c) == nI 1) (p2 := fun c => w (17 + c) == nI 2) (p3 := fun c => w (17 + c) == nI 3) (fun c => by
    generalize w (17 + c) = v
    by_cases h0 : v = nI 0
    · rw [h0]; decide
    · by_cases h1 : v = nI 1
      · rw [h1]; decide
      · by_cases h2 : v = nI 2
        · rw [h2]; decide
        · have e0 : (v == nI 0) = false := by simpa using h0
          have e1 : (v == nI 1) = false := by simpa using h1
          have e2 : (v == nI 2) = false := by simpa using h2
          rw [e0, e1, e2]
          cases v == nI 3 <;> decide) n
  have a0 := kcD_le w n (dgt code 0) 0
  have a1 := kcD_le w n (dgt code 1) 1
  have a2 := kcD_le w n (dgt code 2) 2
  have a3 := kcD_le w n (dgt code 3) 3
  show kcD (kcN w n) (dgt code 0) 0 + (kcD (kcN w n) (dgt code 1) 1 + (kcD (kcN w n) (dgt code 2) 2 + (kcD (kcN w n) (dgt code 3) 3 + 0))) ≤ n
  omega
theorem or_law {w : Nat → Int32} {n m t : Nat} (hL : Lb w n m t) : ∀ k, (∃ c0, c0 < k ∧ gdC w n c0 ∧ orS w n k = nI (n - stC w n c0) ∧ ∀ c, c < k → gdC w n c → stC w n c ≤ stC w n c0) ∨ ((∀ c, c < k → ¬ gdC w n c) ∧ orS w n k = -9) := by
  have h7 := hL.c7
  intro k
  induction k with
  | zero => exact Or.inr ⟨fun c hc => absurd hc (Nat.not_lt_zero c), rfl⟩
  | succ k ih =>
    have s1 : orS w n (k + 1) = if orK w n &&& ((odS w n k 4).1 ^^^ (-1)) = 0 ∧ (orS w n k = -9 ∨ nI n - (odS w n k 4).2 < orS w n k) then nI n - (odS w n k 4).2 else orS w n k := rfl
    have hs := st_le hL k
    rw [od_stay hL, show sD (kcN w n) 4 0 (dgt k) = stC w n k from rfl, nI_sub hs] at s1
    rw [s1]
    clear s1
    generalize orS w n k = v at ih ⊢
    by_cases hg : gdC w n k
    · rcases ih with ⟨c0, b1, b2, rfl, b4⟩ | ⟨b1, rfl⟩
      · have hs0 := st_le hL c0
        by_cases hlt : stC w n c0 < stC w n k
        · rw [if_pos ⟨(cov_iff hL k).mpr hg, Or.inr (nI_lt (by omega) (by omega))⟩]
          refine Or.inl ⟨k, by omega, hg, rfl, fun c hc hgc => ?_⟩
          rcases Nat.lt_or_ge c k with z | z
          · have := b4 c z hgc; omega
          · rw [show c = k by omega]; exact Nat.le_refl _
        · rw [if_neg (fun z => z.2.elim (fun z => nI_ne9 (by omega) z) (fun z => nI_nlt (a := n - stC w n k) (b := n - stC w n c0) (by omega) (by omega) z))]
          refine Or.inl ⟨c0, by omega, b2, rfl, fun c hc hgc => ?_⟩
          rcases Nat.lt_or_ge c k with z | z
          · exact b4 c z hgc
          · rw [show c = k by omega]; omega
      · rw [if_pos ⟨(cov_iff hL k).mpr hg, Or.inl rfl⟩]
        refine Or.inl ⟨k, by omega, hg, rfl, fun c hc hgc => ?_⟩
        rcases Nat.lt_or_ge c k with z | z
        · exact absurd hgc (b1 c z)
        · rw [show c = k by omega]; exact Nat.le_refl _
    · rw [if_neg (fun z => hg ((cov_iff hL k).mp z.1))]
      rcases ih with ⟨c0, b1, b2, b3, b4⟩ | ⟨b1, b2⟩
      · refine Or.inl ⟨c0, by omega, b2, b3, fun c hc hgc => ?_⟩
        rcases Nat.lt_or_ge c k with z | z
        · exact b4 c z hgc
        · rw [show c = k by omega] at hgc; exact absurd hgc hg
      · refine Or.inr ⟨fun c hc hgc => ?_, b2⟩
        rcases Nat.lt_or_ge c k with z | z
        · exact b1 c z hgc
        · rw [show c = k by omega] at hgc; exact hg hgc
theorem dgt_code {a b c d : Nat} (ha : a ≤ 6) (hb : b ≤ 6) (hc : c ≤ 6) (hd : d ≤ 6) : dgt (a + 7 * b + 49 * c + 343 * d) 0 = a ∧ dgt (a + 7 * b + 49 * c + 343 * d) 1 = b ∧ dgt (a + 7 * b + 49 * c + 343 * d) 2 = c ∧ dgt (a + 7 * b + 49 * c + 343 * d) 3 = d ∧ a + 7 * b + 49 * c + 343 * d < 2401 := by
  unfold dgt
  rw [show 7 ^ 0 = 1 from rfl, show 7 ^ 1 = 7 from rfl, show 7 ^ 2 = 49 from rfl, show 7 ^ 3 = 343 from rfl]
  omega
theorem Fe_code {w : Nat → Int32} {n z : Nat} (h : Fe (kcN w n) 4 0 (kpB w n) z) : ∃ c, c < 2401 ∧ gdC w n c ∧ stC w n c = z := by
  obtain ⟨d, d1, d2, rfl⟩ := Fe_to 4 0 _ _ h
  obtain ⟨e0, e1, e2, e3, hlt⟩ := dgt_code (d1 0) (d1 1) (d1 2) (d1 3)
  refine ⟨d 0 + 7 * d 1 + 49 * d 2 + 343 * d 3, hlt, fun kd hk hp => ?_, ?_⟩
  · obtain ⟨i, hi, ei⟩ := d2 kd hk hp
    refine ⟨i, hi, ?_⟩
    match i, hi with
    | 0, _ => exact e0.trans ei
    | 1, _ => exact e1.trans ei
    | 2, _ => exact e2.trans ei
    | 3, _ => exact e3.trans ei
  · show kcD (kcN w n) (dgt _ 0) 0 + (kcD (kcN w n) (dgt _ 1) 1 + (kcD (kcN w n) (dgt _ 2) 2 + (kcD (kcN w n) (dgt _ 3) 3 + 0))) = kcD (kcN w n) (d 0) 0 + (kcD (kcN w n) (d 1) 1 + (kcD (kcN w n) (d 2) 2 + (kcD (kcN w n) (d 3) 3 + 0)))
    rw [e0, e1, e2, e3]
theorem or_fin {w : Nat → Int32} {n m t : Nat} (hL : Lb w n m t) {u : Int32} (h : MvP (Fe (kcN w n) 4 0 (kpB w n)) 28 u) {K : Nat} (hK : K = 2401) : (u < 0 ∧ orS w n K = -9) ∨ (¬ u < 0 ∧ orS w n K = nI n - u) := by
  have hof : ∀ c, gdC w n c → Fe (kcN w n) 4 0 (kpB w n) (stC w n c) := fun c hg => Fe_of 4 0 _ _ (fun i _ => dgt_6 c i) hg
  rcases h with ⟨z, hz, p, rfl, hm⟩ | ⟨hn, e, he, rfl⟩
  · right
    obtain ⟨c, c1, c2, rfl⟩ := Fe_code p
    rcases or_law hL K with ⟨c0, b1, b2, b3, b4⟩ | ⟨b1, b2⟩
    · have h1 := b4 c (by omega) c2
      have h2 := hm _ (hof c0 b2)
      refine ⟨nI_pos (by omega), ?_⟩
      rw [b3, nI_sub (st_le hL c), show stC w n c0 = stC w n c by omega]
    · exact absurd c2 (b1 c (by omega))
  · left
    refine ⟨?_, ?_⟩
    · exact (far_lt (z := 0) (show e ≤ 100 by omega)).resolve_right (by omega)
    · rcases or_law hL K with ⟨c0, b1, b2, b3, b4⟩ | ⟨b1, b2⟩
      · exact absurd (hof c0 b2) (hn _)
      · exact b2
section XOr
variable (L : Nat) {o : OX} {τ : Nat → Nat} {x : XY} {y : MY} {n m t : Nat}
theorem x_order (hV : RV o τ x y n m t) : Ct yX0_order gX0_order (L + 22) 0 0 [.ref 1] (mX o x) (XR o (orS (y.2.2 23) n 2401, y)) := by
  refine Ct.of rfl rfl rfl rfl rfl ?_
  have hX := hV.rl
  have hL := hV.lb
  have h7 := hL.c7
  have fin := fun (u : Int32) (h : MvP (Fe (kcN (y.2.2 23) n) 4 0 (kpB (y.2.2 23) n)) 28 u) => or_fin hL h (K := 2401) rfl
  generalize orS (y.2.2 23) n 2401 = ans at fin ⊢
  generalize hw : y.2.2 23 = w at hX hL fin
  refine gl_iconst (v := nI 0) dX0_order_0 (by decide) ?_
  refine gl_istore_n dX0_order_1 rfl rfl ?_
  refine gl_iconst (v := nI 0) dX0_order_2 (by decide) ?_
  refine gl_istore_n dX0_order_3 rfl rfl ?_
  refine gl_loop (fun k => [some (.ref 1), some (.int (orK w k)), some (.int (nI k))]) (fun _ => mX o x) n ?_ ?_
  · intro k hk ih
    obtain ⟨p, e, -⟩ := hX.card k hk
    refine gl_iload_n dX0_order_4 rfl ?_
    refine gl_aload_n dX0_order_5 rfl ?_
    refine gl_get (k := 7) dX0_order_6 rfl (rfl : vwCl[0]? = some (RX0, TX0, 30)) in_X0 (by decide) q119 rfl ?_
    refine gl_icmp_ge (tgt := 32) dX0_order_9 (by decide) (fun h => absurd h ((by rw [hX.many]; exact nI_ge hk (by omega)))) (fun _ => ?_)
    refine gl_iload_n dX0_order_12 rfl ?_
    refine gl_iconst (v := nI 1) dX0_order_13 (by decide) ?_
    refine gl_aload_n dX0_order_14 rfl ?_
    refine gl_get (k := 8) dX0_order_15 rfl (rfl : vwCl[0]? = some (RX0, TX0, 30)) in_X0 (by decide) q121 rfl ?_
    refine gl_iload_n dX0_order_18 rfl ?_
    refine gl_aald (j := k) dX0_order_19 rfl rfl (by omega) e ?_
    refine gl_kindW hX hL hk e dX0_order_20 q525 (by omega) rfl ⟨by first | exact Nat.le_refl _ | exact Nat.zero_le _ | decide | (dsimp only [rm]; omega), by first | exact Nat.le_refl _ | exact Nat.zero_le _ | decide | (dsimp only [rm]; omega)⟩ ?_
    refine gl_ishl dX0_order_23 ?_
    refine gl_ior dX0_order_24 ?_
    refine gl_istore_n dX0_order_25 rfl rfl ?_
    refine gl_iinc (v := (nI (k + 1))) dX0_order_26 rfl (nI_1 _) rfl rfl ?_
    refine gl_goto (tgt := 4) dX0_order_29 (by decide) ?_
    exact ih
  · refine gl_iload_n dX0_order_4 rfl ?_
    refine gl_aload_n dX0_order_5 rfl ?_
    refine gl_get (k := 7) dX0_order_6 rfl (rfl : vwCl[0]? = some (RX0, TX0, 30)) in_X0 (by decide) q119 rfl ?_
    refine gl_icmp_ge (tgt := 32) dX0_order_9 (by decide) (fun _ => ?_) (fun h => absurd ((by rw [hX.many]; exact nI_le (Nat.le_refl _) (by omega))) h)
    refine gl_aload_n dX0_order_32 rfl ?_
    refine gl_iconst (v := nI 0) dX0_order_33 (by decide) ?_
    refine gl_iload_n dX0_order_34 rfl ?_
    rw [orK_or (fun c hc => hL.kind c (by omega))]
    refine gl_callV (x_staysOn L hX hL 4 0 (by omega) (kpB w n)) dX0_order_35 q939 q941 qs37 q74 q942 rfl hX0_staysOn rfl (rfl : vwCl[0]? = some (RX0, TX0, 30)) rfl rfl (rmOk (by omega) rfl) ⟨by first | exact Nat.le_refl _ | exact Nat.zero_le _ | decide | (dsimp only [rm]; omega), by first | exact Nat.le_refl _ | exact Nat.zero_le _ | decide | (dsimp only [rm]; omega)⟩ ?_
    rintro _ _ ⟨rfl, u, rfl, hu⟩
    rcases fin u hu with ⟨f1, f2⟩ | ⟨f1, f2⟩
    · rw [f2]
      refine gl_istore_n dX0_order_38 rfl rfl ?_
      refine gl_iload_n dX0_order_39 rfl ?_
      refine gl_if_ge (tgt := 48) dX0_order_40 (by decide) (fun h => absurd h ((k2_nle f1))) (fun _ => ?_)
      refine gl_bipush (v := (-9)) dX0_order_43 (by decide) ?_
      refine gl_goto (tgt := 54) dX0_order_45 (by decide) ?_
      exact gl_iret dX0_order_54 rfl (XR.same hV) (hc := by first | exact Nat.zero_le _ | (dsimp only [rm]; omega)) (hs := by first | exact Nat.zero_le _ | (dsimp only [rm]; omega))
    · rw [f2]
      refine gl_istore_n dX0_order_38 rfl rfl ?_
      refine gl_iload_n dX0_order_39 rfl ?_
      refine gl_if_ge (tgt := 48) dX0_order_40 (by decide) (fun _ => ?_) (fun h => absurd ((k2_le f1)) h)
      refine gl_aload_n dX0_order_48 rfl ?_
      refine gl_get (k := 7) dX0_order_49 rfl (rfl : vwCl[0]? = some (RX0, TX0, 30)) in_X0 (by decide) q119 rfl ?_
      refine gl_top (w := .int (nI n)) (congrArg Value.int hX.many) ?_
      refine gl_iload_n dX0_order_52 rfl ?_
      refine gl_isub dX0_order_53 ?_
      exact gl_iret dX0_order_54 rfl (XR.same hV) (hc := by first | exact Nat.zero_le _ | (dsimp only [rm]; omega)) (hs := by first | exact Nat.zero_le _ | (dsimp only [rm]; omega))
end XOr

