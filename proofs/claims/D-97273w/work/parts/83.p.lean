/-! the component: shelves put in order -/
set_option maxRecDepth 100000
def Fe (K : Nat → Nat → Nat) : Nat → Nat → (Nat → Bool) → Nat → Prop
  | 0, _, kp, z => (∀ kd, kd < 6 → kp kd = false) ∧ z = 0
  | r + 1, s, kp, z => Fe K r (s + 1) kp z ∨ ∃ kd, kd < 6 ∧ ∃ z', Fe K r (s + 1) (upB kp kd false) z' ∧ z = K kd s + z'
theorem Fe_b {K : Nat → Nat → Nat} (hK : ∀ a b, K a b ≤ 7) : ∀ {r s : Nat} {kp : Nat → Bool} {z : Nat}, Fe K r s kp z → z ≤ 7 * r
  | 0, _, _, _, h => by rw [h.2]; omega
  | r + 1, s, kp, z, h => by
    rcases h with h | ⟨kd, -, z', h, rfl⟩
    · have := Fe_b hK h; omega
    · have := Fe_b hK h
      have := hK kd s
      omega
/-- the greatest of those that P names; or far below nothing -/
def MvP (P : Nat → Prop) (b : Nat) (v : Int32) : Prop := (∃ z, z ≤ b ∧ P z ∧ v = nI z ∧ ∀ z', P z' → z' ≤ z) ∨ ((∀ z, ¬ P z) ∧ ∃ e, e ≤ b ∧ v = nI e - nI 1048576)
theorem far_lt {e z : Nat} (he : e ≤ 100) : nI e - nI 1048576 < nI z ∨ 1000 < z := by
  by_cases hz : z ≤ 1000
  · left
    rw [Int32.lt_iff_toInt_lt, pk_sub_toInt (by omega) (by omega), nI_toInt (by omega)]
    omega
  · right; omega
theorem MvP_or {P Q : Nat → Prop} {b : Nat} (hb : b ≤ 100) {v u : Int32} (h1 : MvP P b v) (h2 : MvP Q b u) : MvP (fun z => P z ∨ Q z) b (mxI v u) := by
  unfold mxI
  rcases h1 with ⟨z1, b1, p1, rfl, m1⟩ | ⟨n1, e1, b1, rfl⟩
  · rcases h2 with ⟨z2, b2, p2, rfl, m2⟩ | ⟨n2, e2, b2, rfl⟩
    · by_cases h : z1 < z2
      · rw [if_pos (nI_lt h (by omega))]
        exact Or.inl ⟨z2, b2, Or.inr p2, rfl, fun z' q => q.elim (fun q => by have := m1 z' q; omega) (m2 z')⟩
      · rw [if_neg (nI_nlt (by omega) (by omega))]
        exact Or.inl ⟨z1, b1, Or.inl p1, rfl, fun z' q => q.elim (m1 z') (fun q => by have := m2 z' q; omega)⟩
    · have hlt := (far_lt (z := z1) (show e2 ≤ 100 by omega)).resolve_right (by omega)
      rw [if_neg (fun q => Int32.lt_irrefl (Int32.lt_trans q hlt))]
      exact Or.inl ⟨z1, b1, Or.inl p1, rfl, fun z' q => q.elim (m1 z') (fun q => absurd q (n2 z'))⟩
  · rcases h2 with ⟨z2, b2, p2, rfl, m2⟩ | ⟨n2, e2, b2, rfl⟩
    · rw [if_pos ((far_lt (show e1 ≤ 100 by omega)).resolve_right (by omega))]
      exact Or.inl ⟨z2, b2, Or.inr p2, rfl, fun z' q => q.elim (fun q => absurd q (n1 z')) (m2 z')⟩
    · right
      refine ⟨fun z q => q.elim (n1 z) (n2 z), ?_⟩
      split
      · exact ⟨e2, b2, rfl⟩
      · exact ⟨e1, b1, rfl⟩
theorem MvP_sh {P : Nat → Prop} {b k : Nat} {v : Int32} (h : MvP P b v) : MvP (fun z => ∃ z', P z' ∧ z = k + z') (b + k) (nI k + v) := by
  rcases h with ⟨z, hb, p, rfl, m⟩ | ⟨n, e, hb, rfl⟩
  · exact Or.inl ⟨k + z, by omega, ⟨z, p, rfl⟩, nI_add _ _, fun z' ⟨w, q1, q2⟩ => by have := m w q1; omega⟩
  · refine Or.inr ⟨fun z ⟨w, q1, q2⟩ => n w q1, k + e, by omega, ?_⟩
    rw [← nI_add, Int32.sub_eq_add_neg, Int32.sub_eq_add_neg, Int32.add_assoc]
theorem MvP_up {P : Nat → Prop} {b b' : Nat} {v : Int32} (h : MvP P b v) (hb : b ≤ b') : MvP P b' v := by
  rcases h with ⟨z, h1, h2⟩ | ⟨h1, e, h2, h3⟩
  · exact Or.inl ⟨z, by omega, h2⟩
  · exact Or.inr ⟨h1, e, by omega, h3⟩
theorem MvP_eq {P Q : Nat → Prop} {b : Nat} {v : Int32} (h : MvP P b v) (e : ∀ z, P z ↔ Q z) : MvP Q b v := by
  rcases h with ⟨z, h1, h2, h3, h4⟩ | ⟨h1, h2⟩
  · exact Or.inl ⟨z, h1, (e z).mp h2, h3, fun z' q => h4 z' ((e z').mpr q)⟩
  · exact Or.inr ⟨fun z q => h1 z ((e z).mpr q), h2⟩
theorem upB_no {p : Nat → Bool} {c : Nat} (h : p c = false) : upB p c false = p := by
  funext j
  unfold upB
  by_cases e : j = c
  · rw [if_pos e, e, h]
  · rw [if_neg e]
def kcN (w : Nat → Int32) (n a b : Nat) : Nat := cN (fun c => w (3 + c) == nI a && w (17 + c) == nI b) n
theorem lyN_k (w : Nat → Int32) (n a b : Nat) : lyN w (nI a) (nI b) n = nI (kcN w n a b) := cntI_nI _ _
section XSo
variable (L : Nat) {o : OX} {τ : Nat → Nat} {x : XY} {y : MY} {n m t : Nat}
theorem x_staysOn {w : Nat → Int32} (hX : RL o τ x w n m t) (hL : Lb w n m t) : ∀ (r s : Nat), s + r = 4 → ∀ (kp : Nat → Bool), Ct yX0_staysOn gX0_staysOn (L + 17 + r) 0 0 [.ref 1, .int (nI s), .int (orI kp 6)] (mX o x) (fun v μ => μ = mX o x ∧ ∃ u, v = some (.int u) ∧ MvP (Fe (kcN w n) r s kp) (7 * r) u) := by
  have h7 := hL.c7
  have hK : ∀ a b, kcN w n a b ≤ 7 := fun a b => Nat.le_trans (cN_le _ _) h7
  intro r
  induction r with
  | zero =>
    intro s hs kp
    have es : s = 4 := by omega
    subst es
    refine Ct.of rfl rfl rfl rfl rfl ?_
    refine gl_iload_n dX0_staysOn_0 rfl ?_
    refine gl_iconst (v := nI 4) dX0_staysOn_1 (by decide) ?_
    refine gl_icmp_ne (tgt := 17) dX0_staysOn_2 (by decide) (fun h => absurd (rfl) h) (fun _ => ?_)
    refine gl_iload_n dX0_staysOn_5 rfl ?_
    refine gl_if_ne (tgt := 13) dX0_staysOn_6 (by decide) (fun h6 => ?_) (fun h6 => ?_)
    · have hne : ¬ ∀ kd, kd < 6 → kp kd = false := fun z => h6 (orI_0 kp 6 z)
      refine gl_ldc_w (v := -1048576) q943 dX0_staysOn_13 ?_
      exact gl_iret dX0_staysOn_16 rfl ⟨rfl, _, rfl, Or.inr ⟨fun z q => hne q.1, 0, by omega, rfl⟩⟩ (hc := by first | exact Nat.zero_le _ | (dsimp only [rm]; omega)) (hs := by first | exact Nat.zero_le _ | (dsimp only [rm]; omega))
    · have hall : ∀ kd, kd < 6 → kp kd = false := fun kd hk => by
        have e := bit_orI kp 6 kd (by omega) (by omega)
        rw [show orI kp 6 = nI 0 from h6, bit_0 kd (by omega), decide_eq_true hk, Bool.true_and] at e
        exact e.symm
      refine gl_iconst (v := nI 0) dX0_staysOn_9 (by decide) ?_
      refine gl_goto (tgt := 16) dX0_staysOn_10 (by decide) ?_
      exact gl_iret dX0_staysOn_16 rfl ⟨rfl, _, rfl, Or.inl ⟨0, by omega, ⟨hall, rfl⟩, rfl, fun z' q => by rw [q.2]; omega⟩⟩ (hc := by first | exact Nat.zero_le _ | (dsimp only [rm]; omega)) (hs := by first | exact Nat.zero_le _ | (dsimp only [rm]; omega))
  | succ r ih =>
    intro s hs kp
    refine Ct.of rfl rfl rfl rfl rfl ?_
    refine gl_iload_n dX0_staysOn_0 rfl ?_
    refine gl_iconst (v := nI 4) dX0_staysOn_1 (by decide) ?_
    refine gl_icmp_ne (tgt := 17) dX0_staysOn_2 (by decide) (fun _ => ?_) (fun h => absurd h ((fun z => by have := (nI_eq (by omega) (by omega)).mp z; omega)))
    refine gl_aload_n dX0_staysOn_17 rfl ?_
    refine gl_iload_n dX0_staysOn_18 rfl ?_
    refine gl_iconst (v := nI 1) dX0_staysOn_19 (by decide) ?_
    refine gl_iadd dX0_staysOn_20 ?_
    rw [nI_add]
    refine gl_iload_n dX0_staysOn_21 rfl ?_
    refine gl_callV (ih (s + 1) (by omega) kp) dX0_staysOn_22 q939 q941 qs37 q74 q942 rfl hX0_staysOn rfl (rfl : vwCl[0]? = some (RX0, TX0, 30)) rfl rfl (rmOk (by omega) rfl) ⟨by first | exact Nat.le_refl _ | exact Nat.zero_le _ | decide | (dsimp only [rm]; omega), by first | exact Nat.le_refl _ | exact Nat.zero_le _ | decide | (dsimp only [rm]; omega)⟩ ?_
    rintro _ _ ⟨rfl, u, rfl, hu⟩
    refine gl_istore_n dX0_staysOn_25 rfl rfl ?_
    refine gl_iconst (v := nI 0) dX0_staysOn_26 (by decide) ?_
    refine gl_istore dX0_staysOn_27 rfl rfl ?_
    have loop : ∀ (d k : Nat), k + d = 6 → ∀ v : Int32, MvP (fun z => Fe (kcN w n) r (s + 1) kp z ∨ ∃ kd, kd < k ∧ ∃ z', Fe (kcN w n) r (s + 1) (upB kp kd false) z' ∧ z = kcN w n kd s + z') (7 * (r + 1)) v → GL gX0_staysOn (rm (L + 17 + (r + 1)) 0 0) (fun v μ => μ = mX o x ∧ ∃ u, v = some (.int u) ∧ MvP (Fe (kcN w n) (r + 1) s kp) (7 * (r + 1)) u) 0 0 29 [some (.ref 1), some (.int (nI s)), some (.int (orI kp 6)), some (.int v), some (.int (nI k))] [] (mX o x) := by
      intro d
      induction d with
      | zero =>
        intro k hk v hv
        have ek : k = 6 := by omega
        subst ek
        refine gl_iload dX0_staysOn_29 rfl ?_
        refine gl_bipush (v := nI 6) dX0_staysOn_31 (by decide) ?_
        refine gl_icmp_ge (tgt := 89) dX0_staysOn_33 (by decide) (fun _ => ?_) (fun h => absurd ((by decide)) h)
        refine gl_iload_n dX0_staysOn_89 rfl ?_
        exact gl_iret dX0_staysOn_90 rfl ⟨rfl, v, rfl, hv⟩ (hc := by first | exact Nat.zero_le _ | (dsimp only [rm]; omega)) (hs := by first | exact Nat.zero_le _ | (dsimp only [rm]; omega))
      | succ d ihd =>
        intro k hk v hv
        have go : GL gX0_staysOn (rm (L + 17 + (r + 1)) 0 0) (fun v μ => μ = mX o x ∧ ∃ u, v = some (.int u) ∧ MvP (Fe (kcN w n) (r + 1) s kp) (7 * (r + 1)) u) 0 0 55 [some (.ref 1), some (.int (nI s)), some (.int (orI kp 6)), some (.int v), some (.int (nI k))] [] (mX o x) := by
          refine gl_iload_n dX0_staysOn_55 rfl ?_
          refine gl_aload_n dX0_staysOn_56 rfl ?_
          refine gl_iload dX0_staysOn_57 rfl ?_
          refine gl_iload_n dX0_staysOn_59 rfl ?_
          refine gl_callV (x_kindOn L o x hX hL _ _) dX0_staysOn_60 q931 q933 qs36 q74 q934 rfl hX0_kindOn rfl (rfl : vwCl[0]? = some (RX0, TX0, 30)) rfl rfl (rmOk (by omega) rfl) ⟨by first | exact Nat.le_refl _ | exact Nat.zero_le _ | decide | (dsimp only [rm]; omega), by first | exact Nat.le_refl _ | exact Nat.zero_le _ | decide | (dsimp only [rm]; omega)⟩ (rt1 ?_)
          rw [lyN_k]
          refine gl_aload_n dX0_staysOn_63 rfl ?_
          refine gl_iload_n dX0_staysOn_64 rfl ?_
          refine gl_iconst (v := nI 1) dX0_staysOn_65 (by decide) ?_
          refine gl_iadd dX0_staysOn_66 ?_
          rw [nI_add]
          refine gl_iload_n dX0_staysOn_67 rfl ?_
          refine gl_iconst (v := nI 1) dX0_staysOn_68 (by decide) ?_
          refine gl_iload dX0_staysOn_69 rfl ?_
          refine gl_ishl dX0_staysOn_71 ?_
          refine gl_iconst (v := (-1)) dX0_staysOn_72 (by decide) ?_
          refine gl_ixor dX0_staysOn_73 ?_
          refine gl_iand dX0_staysOn_74 ?_
          rw [orI_del _ (by omega) (show k < 6 by omega)]
          refine gl_callV (ih (s + 1) (by omega) (upB kp k false)) dX0_staysOn_75 q939 q941 qs37 q74 q942 rfl hX0_staysOn rfl (rfl : vwCl[0]? = some (RX0, TX0, 30)) rfl rfl (rmOk (by omega) rfl) ⟨by first | exact Nat.le_refl _ | exact Nat.zero_le _ | decide | (dsimp only [rm]; omega), by first | exact Nat.le_refl _ | exact Nat.zero_le _ | decide | (dsimp only [rm]; omega)⟩ ?_
          rintro _ _ ⟨rfl, u2, rfl, hu2⟩
          refine gl_iadd dX0_staysOn_78 ?_
          refine gl_callS (j_max L _ _ _) dX0_staysOn_79 q859 q860 q94 q861 rfl hJ10_max rfl rfl (rmOk (by omega) rfl) ⟨by first | exact Nat.le_refl _ | exact Nat.zero_le _ | decide | (dsimp only [rm]; omega), by first | exact Nat.le_refl _ | exact Nat.zero_le _ | decide | (dsimp only [rm]; omega)⟩ (rt1 ?_)
          refine gl_istore_n dX0_staysOn_82 rfl rfl ?_
          refine gl_iinc (v := (nI (k + 1))) dX0_staysOn_83 rfl (nI_1 _) rfl rfl ?_
          refine gl_goto (tgt := 29) dX0_staysOn_86 (by decide) ?_
          refine ihd (k + 1) (by omega) (mxI v (nI (kcN w n k s) + u2)) ?_
          refine MvP_eq (MvP_or (by omega) hv (MvP_up (MvP_sh (k := kcN w n k s) hu2) (by have := hK k s; omega))) (fun z => ?_)
          constructor
          · rintro ((q | ⟨kd, q1, q2⟩) | q)
            · exact Or.inl q
            · exact Or.inr ⟨kd, by omega, q2⟩
            · exact Or.inr ⟨k, by omega, q⟩
          · rintro (q | ⟨kd, q1, q2⟩)
            · exact Or.inl (Or.inl q)
            · by_cases e : kd = k
              · subst e; exact Or.inr q2
              · exact Or.inl (Or.inr ⟨kd, by omega, q2⟩)
        refine gl_iload dX0_staysOn_29 rfl ?_
        refine gl_bipush (v := nI 6) dX0_staysOn_31 (by decide) ?_
        refine gl_icmp_ge (tgt := 89) dX0_staysOn_33 (by decide) (fun h => absurd h (nI_ge (by omega) (by omega))) (fun _ => ?_)
        refine gl_aload_n dX0_staysOn_36 rfl ?_
        refine gl_iload dX0_staysOn_37 rfl ?_
        refine gl_iload_n dX0_staysOn_39 rfl ?_
        refine gl_callV (x_kindOn L o x hX hL _ _) dX0_staysOn_40 q931 q933 qs36 q74 q934 rfl hX0_kindOn rfl (rfl : vwCl[0]? = some (RX0, TX0, 30)) rfl rfl (rmOk (by omega) rfl) ⟨by first | exact Nat.le_refl _ | exact Nat.zero_le _ | decide | (dsimp only [rm]; omega), by first | exact Nat.le_refl _ | exact Nat.zero_le _ | decide | (dsimp only [rm]; omega)⟩ (rt1 ?_)
        rw [lyN_k]
        refine gl_if_gt (tgt := 55) dX0_staysOn_43 (by decide) (fun h43 => ?_) (fun h43 => ?_)
        · exact go
        · have hk0 : kcN w n k s = 0 := by
            rcases Nat.eq_zero_or_pos (kcN w n k s) with z | z
            · exact z
            · exact absurd (nI_lt (a := 0) z (by have := hK k s; omega)) h43
          refine gl_iload_n dX0_staysOn_46 rfl ?_
          refine gl_iload dX0_staysOn_47 rfl ?_
          refine gl_callS (x_has L _ _ k (by omega)) dX0_staysOn_49 q827 q828 q74 q829 rfl hX0_has rfl rfl (rmOk (by omega) rfl) ⟨by first | exact Nat.le_refl _ | exact Nat.zero_le _ | decide | (dsimp only [rm]; omega), by first | exact Nat.le_refl _ | exact Nat.zero_le _ | decide | (dsimp only [rm]; omega)⟩ (rt1 ?_)
          rw [bit_orI _ _ _ (by omega) (by omega), decide_eq_true (show k < 6 by omega), Bool.true_and]
          refine gl_if_eq (tgt := 83) dX0_staysOn_52 (by decide) (fun h52 => ?_) (fun h52 => ?_)
          · have hkp := bI_fa h52
            refine gl_iinc (v := (nI (k + 1))) dX0_staysOn_83 rfl (nI_1 _) rfl rfl ?_
            refine gl_goto (tgt := 29) dX0_staysOn_86 (by decide) ?_
            refine ihd (k + 1) (by omega) v (MvP_eq hv (fun z => ?_))
            constructor
            · rintro (q | ⟨kd, q1, q2⟩)
              · exact Or.inl q
              · exact Or.inr ⟨kd, by omega, q2⟩
            · rintro (q | ⟨kd, q1, q2⟩)
              · exact Or.inl q
              · by_cases e : kd = k
                · subst e
                  obtain ⟨z', q3, q4⟩ := q2
                  rw [upB_no hkp] at q3
                  rw [hk0] at q4
                  rw [q4, Nat.zero_add]
                  exact Or.inl q3
                · exact Or.inr ⟨kd, by omega, q2⟩
          · exact go
    exact loop 6 0 (by omega) u (MvP_eq (MvP_up hu (by omega)) (fun z => ⟨Or.inl, fun q => q.elim id (fun ⟨kd, q1, _⟩ => absurd q1 (Nat.not_lt_zero kd))⟩))
end XSo

