/-! the component: kept, and gone on with -/
set_option maxRecDepth 100000
section XK2
variable (L : Nat) {o o1 : OX} {τ τ1 : Nat → Nat} {x : XY} {y : MY} {n m t k p u : Nat} {a : Nat → Nat} {f : Nat → Nat → Int32} {r13 : Nat → Option Nat}
theorem x_keepT (hV : RV o τ x y n m t) (hk : k < 3) (h33 : 33 ≤ o1.1) (ho : o1.2.1 = o.2.1 ∧ o1.2.2.1 = o.2.2.1) (hr : r13 k = some p) (hro : ∀ j, j ≠ k → r13 j = x.2.2.2.1 13 j) (hK : KO o1 τ1 k p a u f) (hF : KF o τ o1 τ1 k) {cells slots : Nat} (hcl : cells ≤ 7) (hsl : slots ≤ 355) : GL gX0_keep (rm (L + 15) 7 355) (XR o (y.2.2 23 2, sA (sA y 24 (va_cpy (y.2.2 23) (y.2.2 24) 0 (393 * k) 393)) 25 (upd (y.2.2 25) k (nI 1)))) cells slots 41 [some (.ref 1), some (.int (nI k)), none, none] [] (mX o1 (tR x 13 r13)) := by
  have hX := hV.rl
  have hL := hV.lb
  have h7 := hL.c7
  have h7q := hL.q7
  have h40 := hL.t40
  refine gl_aload_n dX0_keep_41 rfl ?_
  refine gl_get (k := 22) dX0_keep_42 rfl (rfl : vwCl[0]? = some (RX0, TX0, 30)) in_X0 (by decide) q135 rfl ?_
  refine gl_iload_n dX0_keep_45 rfl ?_
  refine gl_aald (j := k) dX0_keep_46 rfl rfl (by omega) hr ?_
  refine gl_astore_n dX0_keep_47 rfl rfl ?_
  refine gl_aload_n dX0_keep_48 rfl ?_
  refine gl_aload_n dX0_keep_49 rfl ?_
  refine gl_get (k := 19) dX0_keep_50 rfl (rfl : vwCl[0]? = some (RX0, TX0, 30)) in_X0 (by decide) q132 rfl ?_
  refine gl_top (w := .int (nI t)) (congrArg Value.int hX.takingMany) ?_
  refine gl_putN (k := 0) dX0_keep_53 hK.1.lk (rfl : vwCl[8]? = some (RX8, TX8, 7)) in_X8 tyX8 tyX8_ok nmX8 (by decide) rfl n775 (fun _ _ => ⟨rfl, rfl⟩) rfl ?_
  refine gl_mem (μ1 := mX (oP o1 p (kpO t a)) (tR x 13 r13)) (up_hi hK.1.1.1) ?_
  have hF := hF.p0 hK (kpO t a)
  have hK := hK.p0 hk t
  replace ho : (oP o1 p (kpO t a)).2.1 = o.2.1 ∧ (oP o1 p (kpO t a)).2.2.1 = o.2.2.1 := ho
  replace h33 : 33 ≤ (oP o1 p (kpO t a)).1 := h33
  generalize oP o1 p (kpO t a) = o2 at hF hK ho h33 ⊢
  refine gl_aload_n dX0_keep_56 rfl ?_
  refine gl_get (k := 20) dX0_keep_57 rfl (rfl : vwCl[0]? = some (RX0, TX0, 30)) in_X0 (by decide) q133 rfl ?_
  refine gl_iconst (v := nI 0) dX0_keep_60 (by decide) ?_
  refine gl_aload_n dX0_keep_61 rfl ?_
  refine gl_getN (k := 1) dX0_keep_62 hK.1.lk (rfl : vwCl[8]? = some (RX8, TX8, 7)) in_X8 (by decide) n777 rfl ?_
  refine gl_iconst (v := nI 0) dX0_keep_65 (by decide) ?_
  refine gl_bipush (v := nI 40) dX0_keep_66 (by decide) ?_
  refine gl_copy (n0 := 11) (n1 := a 0) (sp := 0) (dp := 0) (k := 40) dX0_keep_68 q371 rfl (hK.2 0 (by omega)).lk rfl rfl rfl (by omega) (by decide) (by omega) (by decide) rfl (copyR (by omega)) ?_
  refine gl_mem (μ1 := mX (oP o2 (a 0) (.inl (0, kpN 0, va_cpy (x.2.2.1 11) (f 0) 0 0 40))) (tR x 13 r13)) (up_hi (hK.2 0 (by omega)).1.1) ?_
  have hF := hF.pj hK (show 0 < 6 by omega) (.inl (0, kpN 0, va_cpy (x.2.2.1 11) (f 0) 0 0 40))
  have hK := hK.pj hk (show 0 < 6 by omega) (va_cpy (x.2.2.1 11) (f 0) 0 0 40)
  replace ho : (oP o2 (a 0) (.inl (0, kpN 0, va_cpy (x.2.2.1 11) (f 0) 0 0 40))).2.1 = o.2.1 ∧ (oP o2 (a 0) (.inl (0, kpN 0, va_cpy (x.2.2.1 11) (f 0) 0 0 40))).2.2.1 = o.2.2.1 := ho
  replace h33 : 33 ≤ (oP o2 (a 0) (.inl (0, kpN 0, va_cpy (x.2.2.1 11) (f 0) 0 0 40))).1 := h33
  generalize oP o2 (a 0) (.inl (0, kpN 0, va_cpy (x.2.2.1 11) (f 0) 0 0 40)) = o3 at hF hK ho h33 ⊢
  have ef0 : ∀ i, i < 40 → va_up f 0 (va_cpy (x.2.2.1 11) (f 0) 0 0 40) 0 i = x.2.2.1 11 i := fun i hi => by rw [va_up_self, pk_cpy_in (by omega) (by omega), Nat.zero_add, Nat.sub_zero]
  generalize va_up f 0 (va_cpy (x.2.2.1 11) (f 0) 0 0 40) = f1 at hK ef0
  refine gl_aload_n dX0_keep_71 rfl ?_
  refine gl_get (k := 21) dX0_keep_72 rfl (rfl : vwCl[0]? = some (RX0, TX0, 30)) in_X0 (by decide) q134 rfl ?_
  refine gl_iconst (v := nI 0) dX0_keep_75 (by decide) ?_
  refine gl_aload_n dX0_keep_76 rfl ?_
  refine gl_getN (k := 2) dX0_keep_77 hK.1.lk (rfl : vwCl[8]? = some (RX8, TX8, 7)) in_X8 (by decide) n779 rfl ?_
  refine gl_iconst (v := nI 0) dX0_keep_80 (by decide) ?_
  refine gl_sipush (v := nI 280) dX0_keep_81 (by decide) ?_
  refine gl_copy (n0 := 12) (n1 := a 1) (sp := 0) (dp := 0) (k := 280) dX0_keep_84 q371 rfl (hK.2 1 (by omega)).lk rfl rfl rfl (by omega) (by decide) (by omega) (by decide) rfl (copyR (by omega)) ?_
  refine gl_mem (μ1 := mX (oP o3 (a 1) (.inl (0, kpN 1, va_cpy (x.2.2.1 12) (f1 1) 0 0 280))) (tR x 13 r13)) (up_hi (hK.2 1 (by omega)).1.1) ?_
  have hF := hF.pj hK (show 1 < 6 by omega) (.inl (0, kpN 1, va_cpy (x.2.2.1 12) (f1 1) 0 0 280))
  have hK := hK.pj hk (show 1 < 6 by omega) (va_cpy (x.2.2.1 12) (f1 1) 0 0 280)
  replace ho : (oP o3 (a 1) (.inl (0, kpN 1, va_cpy (x.2.2.1 12) (f1 1) 0 0 280))).2.1 = o.2.1 ∧ (oP o3 (a 1) (.inl (0, kpN 1, va_cpy (x.2.2.1 12) (f1 1) 0 0 280))).2.2.1 = o.2.2.1 := ho
  replace h33 : 33 ≤ (oP o3 (a 1) (.inl (0, kpN 1, va_cpy (x.2.2.1 12) (f1 1) 0 0 280))).1 := h33
  generalize oP o3 (a 1) (.inl (0, kpN 1, va_cpy (x.2.2.1 12) (f1 1) 0 0 280)) = o4 at hF hK ho h33 ⊢
  have ef1 : ∀ i, i < 280 → va_up f1 1 (va_cpy (x.2.2.1 12) (f1 1) 0 0 280) 1 i = x.2.2.1 12 i := fun i hi => by rw [va_up_self, pk_cpy_in (by omega) (by omega), Nat.zero_add, Nat.sub_zero]
  have ef0 : ∀ i, i < 40 → va_up f1 1 (va_cpy (x.2.2.1 12) (f1 1) 0 0 280) 0 i = x.2.2.1 11 i := fun i hi => by rw [va_up_ne _ _ (by omega)]; exact ef0 i hi
  generalize va_up f1 1 (va_cpy (x.2.2.1 12) (f1 1) 0 0 280) = f2 at hK ef0 ef1
  refine gl_aload_n dX0_keep_87 rfl ?_
  refine gl_get (k := 12) dX0_keep_88 rfl (rfl : vwCl[0]? = some (RX0, TX0, 30)) in_X0 (by decide) q125 rfl ?_
  refine gl_iconst (v := nI 0) dX0_keep_91 (by decide) ?_
  refine gl_aload_n dX0_keep_92 rfl ?_
  refine gl_getN (k := 3) dX0_keep_93 hK.1.lk (rfl : vwCl[8]? = some (RX8, TX8, 7)) in_X8 (by decide) n781 rfl ?_
  refine gl_iconst (v := nI 0) dX0_keep_96 (by decide) ?_
  refine gl_bipush (v := nI 7) dX0_keep_97 (by decide) ?_
  refine gl_copy (n0 := 8) (n1 := a 2) (sp := 0) (dp := 0) (k := 7) dX0_keep_99 q371 rfl (hK.2 2 (by omega)).lk rfl rfl rfl (by omega) (by decide) (by omega) (by decide) rfl (copyR (by omega)) ?_
  refine gl_mem (μ1 := mX (oP o4 (a 2) (.inl (0, kpN 2, va_cpy (x.2.2.1 8) (f2 2) 0 0 7))) (tR x 13 r13)) (up_hi (hK.2 2 (by omega)).1.1) ?_
  have hF := hF.pj hK (show 2 < 6 by omega) (.inl (0, kpN 2, va_cpy (x.2.2.1 8) (f2 2) 0 0 7))
  have hK := hK.pj hk (show 2 < 6 by omega) (va_cpy (x.2.2.1 8) (f2 2) 0 0 7)
  replace ho : (oP o4 (a 2) (.inl (0, kpN 2, va_cpy (x.2.2.1 8) (f2 2) 0 0 7))).2.1 = o.2.1 ∧ (oP o4 (a 2) (.inl (0, kpN 2, va_cpy (x.2.2.1 8) (f2 2) 0 0 7))).2.2.1 = o.2.2.1 := ho
  replace h33 : 33 ≤ (oP o4 (a 2) (.inl (0, kpN 2, va_cpy (x.2.2.1 8) (f2 2) 0 0 7))).1 := h33
  generalize oP o4 (a 2) (.inl (0, kpN 2, va_cpy (x.2.2.1 8) (f2 2) 0 0 7)) = o5 at hF hK ho h33 ⊢
  have ef2 : ∀ i, i < 7 → va_up f2 2 (va_cpy (x.2.2.1 8) (f2 2) 0 0 7) 2 i = x.2.2.1 8 i := fun i hi => by rw [va_up_self, pk_cpy_in (by omega) (by omega), Nat.zero_add, Nat.sub_zero]
  have ef0 : ∀ i, i < 40 → va_up f2 2 (va_cpy (x.2.2.1 8) (f2 2) 0 0 7) 0 i = x.2.2.1 11 i := fun i hi => by rw [va_up_ne _ _ (by omega)]; exact ef0 i hi
  have ef1 : ∀ i, i < 280 → va_up f2 2 (va_cpy (x.2.2.1 8) (f2 2) 0 0 7) 1 i = x.2.2.1 12 i := fun i hi => by rw [va_up_ne _ _ (by omega)]; exact ef1 i hi
  generalize va_up f2 2 (va_cpy (x.2.2.1 8) (f2 2) 0 0 7) = f3 at hK ef0 ef1 ef2
  refine gl_aload_n dX0_keep_102 rfl ?_
  refine gl_get (k := 11) dX0_keep_103 rfl (rfl : vwCl[0]? = some (RX0, TX0, 30)) in_X0 (by decide) q124 rfl ?_
  refine gl_iconst (v := nI 0) dX0_keep_106 (by decide) ?_
  refine gl_aload_n dX0_keep_107 rfl ?_
  refine gl_getN (k := 4) dX0_keep_108 hK.1.lk (rfl : vwCl[8]? = some (RX8, TX8, 7)) in_X8 (by decide) n783 rfl ?_
  refine gl_iconst (v := nI 0) dX0_keep_111 (by decide) ?_
  refine gl_bipush (v := nI 7) dX0_keep_112 (by decide) ?_
  refine gl_copy (n0 := 7) (n1 := a 3) (sp := 0) (dp := 0) (k := 7) dX0_keep_114 q371 rfl (hK.2 3 (by omega)).lk rfl rfl rfl (by omega) (by decide) (by omega) (by decide) rfl (copyR (by omega)) ?_
  refine gl_mem (μ1 := mX (oP o5 (a 3) (.inl (0, kpN 3, va_cpy (x.2.2.1 7) (f3 3) 0 0 7))) (tR x 13 r13)) (up_hi (hK.2 3 (by omega)).1.1) ?_
  have hF := hF.pj hK (show 3 < 6 by omega) (.inl (0, kpN 3, va_cpy (x.2.2.1 7) (f3 3) 0 0 7))
  have hK := hK.pj hk (show 3 < 6 by omega) (va_cpy (x.2.2.1 7) (f3 3) 0 0 7)
  replace ho : (oP o5 (a 3) (.inl (0, kpN 3, va_cpy (x.2.2.1 7) (f3 3) 0 0 7))).2.1 = o.2.1 ∧ (oP o5 (a 3) (.inl (0, kpN 3, va_cpy (x.2.2.1 7) (f3 3) 0 0 7))).2.2.1 = o.2.2.1 := ho
  replace h33 : 33 ≤ (oP o5 (a 3) (.inl (0, kpN 3, va_cpy (x.2.2.1 7) (f3 3) 0 0 7))).1 := h33
  generalize oP o5 (a 3) (.inl (0, kpN 3, va_cpy (x.2.2.1 7) (f3 3) 0 0 7)) = o6 at hF hK ho h33 ⊢
  have ef3 : ∀ i, i < 7 → va_up f3 3 (va_cpy (x.2.2.1 7) (f3 3) 0 0 7) 3 i = x.2.2.1 7 i := fun i hi => by rw [va_up_self, pk_cpy_in (by omega) (by omega), Nat.zero_add, Nat.sub_zero]
  have ef0 : ∀ i, i < 40 → va_up f3 3 (va_cpy (x.2.2.1 7) (f3 3) 0 0 7) 0 i = x.2.2.1 11 i := fun i hi => by rw [va_up_ne _ _ (by omega)]; exact ef0 i hi
  have ef1 : ∀ i, i < 280 → va_up f3 3 (va_cpy (x.2.2.1 7) (f3 3) 0 0 7) 1 i = x.2.2.1 12 i := fun i hi => by rw [va_up_ne _ _ (by omega)]; exact ef1 i hi
  have ef2 : ∀ i, i < 7 → va_up f3 3 (va_cpy (x.2.2.1 7) (f3 3) 0 0 7) 2 i = x.2.2.1 8 i := fun i hi => by rw [va_up_ne _ _ (by omega)]; exact ef2 i hi
  generalize va_up f3 3 (va_cpy (x.2.2.1 7) (f3 3) 0 0 7) = f4 at hK ef0 ef1 ef2 ef3
  have hkf : kpF f4 (y.2.2 23) 0 t := ⟨fun i hi => (ef0 i (by omega)).trans (hX.taking i hi), fun i hi q hq => (ef1 _ (by omega)).trans (hX.ahead i hi q hq), fun q hq => (ef2 q hq).trans (hX.by_ q hq), fun q hq => (ef3 q hq).trans (hX.truth q hq), fun c hc => absurd hc (Nat.not_lt_zero c), fun c hc => absurd hc (Nat.not_lt_zero c)⟩
  clear ef0 ef1 ef2 ef3
  refine gl_iconst (v := nI 0) dX0_keep_117 (by decide) ?_
  refine gl_istore_n dX0_keep_118 rfl rfl ?_
  have fin : ∀ (o' : OX) (g : Nat → Nat → Int32), 33 ≤ o'.1 → (o'.2.1 = o.2.1 ∧ o'.2.2.1 = o.2.2.1) → KO o' τ1 k p a t g → KF o τ o' τ1 k → kpF g (y.2.2 23) n t → RV o' τ1 (tR x 13 r13) (sA (sA y 24 (va_cpy (y.2.2 23) (y.2.2 24) 0 (393 * k) 393)) 25 (upd (y.2.2 25) k (nI 1))) n m t := by
    intro o' g h33 ho hK hF hkf
    refine ⟨h33, hX.tr (fun k' tag c h1 h2 => hF k' tag c (by omega)), hL, fun j hj => (hV.row j hj).tr (fun k' c => hF k' _ c (by omega)), fun j hj => (hV.text j hj).tr (fun k' c => hF k' _ c (by omega)), fun j hj => ?_, hV.vis⟩
    show kpR o' τ1 j (r13 j) (upd (y.2.2 25) k (nI 1) j) (fun a => va_cpy (y.2.2 23) (y.2.2 24) 0 (393 * k) 393 (393 * j + a)) (y.2.2 23) n m
    by_cases e : j = k
    · subst e
      have ev : ∀ a, a < 393 → va_cpy (y.2.2 23) (y.2.2 24) 0 (393 * j) 393 (393 * j + a) = y.2.2 23 a := fun a ha => by
        rw [pk_cpy_in (by omega) (by omega), show 0 + (393 * j + a - 393 * j) = a by omega]
      exact Or.inr ⟨p, a, t, g, hr, by rw [pk_us]; decide, hK.1, hK.2, Lb_congr hL ev, fun i hi => ev i (by have := hi.1; omega), kpF_congr hkf h7 h40 ev⟩
    · rw [hro j e, pk_un e]
      exact ((hV.kept j hj).tr (fun k' tag c ht => hF k' tag c (by omega))).v (fun a ha => by rw [pk_cpy_out (by omega)])
  have loop : ∀ (d j : Nat), j + d = n → ∀ (o' : OX) (g : Nat → Nat → Int32), 33 ≤ o'.1 → (o'.2.1 = o.2.1 ∧ o'.2.2.1 = o.2.2.1) → KO o' τ1 k p a t g → KF o τ o' τ1 k → kpF g (y.2.2 23) j t → GL gX0_keep (rm (L + 15) 7 355) (XR o (y.2.2 23 2, sA (sA y 24 (va_cpy (y.2.2 23) (y.2.2 24) 0 (393 * k) 393)) 25 (upd (y.2.2 25) k (nI 1)))) cells slots 119 [some (.ref 1), some (.int (nI k)), some (.ref p), some (.int (nI j))] [] (mX o' (tR x 13 r13)) := by
    intro d
    induction d with
    | zero =>
      intro j hj o' g h33 ho hK hF hkf
      have ej : j = n := by omega
      subst ej
      refine gl_iload_n dX0_keep_119 rfl ?_
      refine gl_aload_n dX0_keep_120 rfl ?_
      refine gl_get (k := 7) dX0_keep_121 rfl (rfl : vwCl[0]? = some (RX0, TX0, 30)) in_X0 (by decide) q119 rfl ?_
      refine gl_icmp_ge (tgt := 163) dX0_keep_124 (by decide) (fun _ => ?_) (fun h => absurd ((by show x.1 7 ≤ nI j; rw [hX.many]; exact nI_le (Nat.le_refl _) (by omega))) h)
      refine gl_aload_n dX0_keep_163 rfl ?_
      refine gl_get (k := 19) dX0_keep_164 rfl (rfl : vwCl[0]? = some (RX0, TX0, 30)) in_X0 (by decide) q132 rfl ?_
      refine gl_top (w := .int (y.2.2 23 2)) (congrArg Value.int (hX.takingMany.trans hL.tk.symm)) ?_
      exact gl_iret dX0_keep_167 rfl ⟨rfl, o', tR x 13 r13, τ1, j, m, t, rfl, ho, fin o' g h33 ho hK hF hkf⟩ (hc := by first | exact Nat.zero_le _ | (dsimp only [rm]; omega)) (hs := by first | exact Nat.zero_le _ | (dsimp only [rm]; omega))
    | succ d ih =>
      intro j hj o' g h33 ho hK hF hkf
      have hc : j < n := by omega
      obtain ⟨pc, e, -⟩ := hX.card j hc
      have hX1 : RL o' τ1 (tR x 13 r13) (y.2.2 23) n m t := hX.tr (fun k' tag c h1 h2 => hF k' tag c (by omega))
      have h4 : lk (mX o' (tR x 13 r13)) (a 4) = some (.inl (0, 7, g 4)) := (hK.2 4 (by omega)).lk
      refine gl_iload_n dX0_keep_119 rfl ?_
      refine gl_aload_n dX0_keep_120 rfl ?_
      refine gl_get (k := 7) dX0_keep_121 rfl (rfl : vwCl[0]? = some (RX0, TX0, 30)) in_X0 (by decide) q119 rfl ?_
      refine gl_icmp_ge (tgt := 163) dX0_keep_124 (by decide) (fun h => absurd h ((by show ¬ x.1 7 ≤ nI j; rw [hX.many]; exact nI_ge hc (by omega)))) (fun _ => ?_)
      refine gl_aload_n dX0_keep_127 rfl ?_
      refine gl_getN (k := 5) dX0_keep_128 hK.1.lk (rfl : vwCl[8]? = some (RX8, TX8, 7)) in_X8 (by decide) n785 rfl ?_
      refine gl_iload_n dX0_keep_131 rfl ?_
      refine gl_aload_n dX0_keep_132 rfl ?_
      refine gl_get (k := 8) dX0_keep_133 rfl (rfl : vwCl[0]? = some (RX0, TX0, 30)) in_X0 (by decide) q121 rfl ?_
      refine gl_iload_n dX0_keep_136 rfl ?_
      refine gl_aald (j := j) dX0_keep_137 rfl rfl (by omega) e ?_
      refine gl_shelfW hX1 hL hc e dX0_keep_138 n450 ?_
      refine gl_iast (j := j) dX0_keep_141 h4 rfl (by omega) ?_
      refine gl_mem (μ1 := mX (oP o' (a 4) (.inl (0, kpN 4, upd (g 4) j (y.2.2 23 (17 + j))))) (tR x 13 r13)) (up_hi (hK.2 4 (by omega)).1.1) ?_
      have hF2 := hF.pj hK (show 4 < 6 by omega) (.inl (0, kpN 4, upd (g 4) j (y.2.2 23 (17 + j))))
      have hK2 := hK.pj hk (show 4 < 6 by omega) (upd (g 4) j (y.2.2 23 (17 + j)))
      have hX2 : RL (oP o' (a 4) (.inl (0, kpN 4, upd (g 4) j (y.2.2 23 (17 + j))))) τ1 (tR x 13 r13) (y.2.2 23) n m t := hX.tr (fun k' tag c h1 h2 => hF2 k' tag c (by omega))
      have h5 : lk (mX (oP o' (a 4) (.inl (0, kpN 4, upd (g 4) j (y.2.2 23 (17 + j))))) (tR x 13 r13)) (a 5) = some (.inl (0, 7, g 5)) := (hK2.2 5 (by omega)).lk
      refine gl_aload_n dX0_keep_142 rfl ?_
      refine gl_getN (k := 6) dX0_keep_143 hK2.1.lk (rfl : vwCl[8]? = some (RX8, TX8, 7)) in_X8 (by decide) n787 rfl ?_
      refine gl_iload_n dX0_keep_146 rfl ?_
      refine gl_aload_n dX0_keep_147 rfl ?_
      refine gl_get (k := 8) dX0_keep_148 rfl (rfl : vwCl[0]? = some (RX0, TX0, 30)) in_X0 (by decide) q121 rfl ?_
      refine gl_iload_n dX0_keep_151 rfl ?_
      refine gl_aald (j := j) dX0_keep_152 rfl rfl (by omega) e ?_
      refine gl_ageFW hX2 hL hc e dX0_keep_153 n452 ?_
      refine gl_iast (j := j) dX0_keep_156 h5 rfl (by omega) ?_
      refine gl_mem (μ1 := mX (oP (oP o' (a 4) (.inl (0, kpN 4, upd (g 4) j (y.2.2 23 (17 + j))))) (a 5) (.inl (0, kpN 5, upd (g 5) j (y.2.2 23 (24 + j))))) (tR x 13 r13)) (up_hi (hK2.2 5 (by omega)).1.1) ?_
      have hF3 := hF2.pj hK2 (show 5 < 6 by omega) (.inl (0, kpN 5, upd (g 5) j (y.2.2 23 (24 + j))))
      have hK3 := hK2.pj hk (show 5 < 6 by omega) (upd (g 5) j (y.2.2 23 (24 + j)))
      refine gl_iinc (v := (nI (j + 1))) dX0_keep_157 rfl (nI_1 _) rfl rfl ?_
      refine gl_goto (tgt := 119) dX0_keep_160 (by decide) ?_
      refine ih (j + 1) (by omega) _ _ h33 ho hK3 hF3 ?_
      obtain ⟨k1, k2, k3, k4, k5, k6⟩ := hkf
      refine ⟨fun i hi => ?_, fun i hi q hq => ?_, fun q hq => ?_, fun q hq => ?_, fun c hc => ?_, fun c hc => ?_⟩
      · rw [va_up_ne _ _ (by omega), va_up_ne _ _ (by omega)]; exact k1 i hi
      · rw [va_up_ne _ _ (by omega), va_up_ne _ _ (by omega)]; exact k2 i hi q hq
      · rw [va_up_ne _ _ (by omega), va_up_ne _ _ (by omega)]; exact k3 q hq
      · rw [va_up_ne _ _ (by omega), va_up_ne _ _ (by omega)]; exact k4 q hq
      · rw [va_up_ne _ _ (by omega), va_up_self]
        by_cases e : c = j
        · rw [e, pk_us]
        · rw [pk_un e]; exact k5 c (by omega)
      · rw [va_up_self]
        by_cases e : c = j
        · rw [e, pk_us]
        · rw [pk_un e]; exact k6 c (by omega)
  exact loop n 0 (by omega) _ _ h33 ho hK hF hkf
theorem x_keep (hV : RV o τ x y n m t) (k : Int32) : Ct yX0_keep gX0_keep (L + 15) 7 355 [.ref 1, .int k] (mX o x) (XR o (sp_keep y k)) := by
  refine Ct.of rfl rfl rfl rfl rfl ?_
  have h33 := hV.h33
  have hX := hV.rl
  unfold sp_keep
  rw [hV.lb.c]
  refine gl_iload_n dX0_keep_0 rfl ?_
  refine gl_callS (x_isKept L _ _) dX0_keep_1 q767 q768 q74 q769 rfl hX0_isKept rfl rfl (rmOk (by omega) rfl) ⟨by first | exact Nat.le_refl _ | exact Nat.zero_le _ | decide | (dsimp only [rm]; omega), by first | exact Nat.le_refl _ | exact Nat.zero_le _ | decide | (dsimp only [rm]; omega)⟩ (rt1 ?_)
  refine gl_if_ne (tgt := 9) dX0_keep_4 (by decide) (fun h4 => ?_) (fun h4 => ?_)
  · have hr := bI_tr h4
    rw [if_pos hr]
    obtain ⟨k, -, hk, rfl⟩ := inR_nat (a := 0) (b := 2) (by omega) (by omega) hr
    rw [ix_nI (show k < 100 by omega)]
    refine gl_aload_n dX0_keep_9 rfl ?_
    refine gl_get (k := 7) dX0_keep_10 rfl (rfl : vwCl[0]? = some (RX0, TX0, 30)) in_X0 (by decide) q119 rfl ?_
    rw [hX.many]
    refine gl_if_ne (tgt := 19) dX0_keep_13 (by decide) (fun h13 => ?_) (fun h13 => ?_)
    · rw [if_neg h13]
      refine gl_aload_n dX0_keep_19 rfl ?_
      refine gl_get (k := 22) dX0_keep_20 rfl (rfl : vwCl[0]? = some (RX0, TX0, 30)) in_X0 (by decide) q135 rfl ?_
      refine gl_iload_n dX0_keep_23 rfl ?_
      rcases hV.kept k (by omega) with ⟨e, es⟩ | ⟨p, a, u, f, e, es, hO, hA, -⟩
      · refine gl_aald (j := k) dX0_keep_24 rfl rfl (by omega) e ?_
        refine gl_ifnonnullN dX0_keep_25 ?_
        refine gl_aload_n dX0_keep_28 rfl ?_
        refine gl_get (k := 22) dX0_keep_29 rfl (rfl : vwCl[0]? = some (RX0, TX0, 30)) in_X0 (by decide) q135 rfl ?_
        refine gl_iload_n dX0_keep_32 rfl ?_
        refine gl_new (fs := [.int 0, .null, .null, .null, .null, .null, .null]) dX0_keep_33 (rfl : vwCl[8]? = some (RX8, TX8, 7)) in_X8 tyX8 tyX8_ok q110 q770 q93 (fun _ _ j hj => by match j, hj with | 0, _ => rfl | 1, _ => rfl | 2, _ => rfl | 3, _ => rfl | 4, _ => rfl | 5, _ => rfl | 6, _ => rfl) (pok_hi h33) (by dsimp only [rm]; omega) (by dsimp only [rm]; omega) ?_
        refine gl_mem (psh_hi h33) ?_
        have hO : Own (oN o (.inr (.inr (8, kpD)))) (va_up τ o.1 (40 + k)) o.1 (40 + k) (.inr (.inr (8, kpD))) := Own.news h33
        refine gl_dup dX0_keep_36 rfl ?_
        refine gl_callIN (x_kInit L (Nat.le_succ_of_le h33) k o.1 (by omega) hO) dX0_keep_37 n771 q772 q93 q773 rfl rfl rfl hX8_init rfl rfl (rmOk (by omega) rfl) ⟨by first | exact Nat.le_refl _ | exact Nat.zero_le _ | decide | (dsimp only [rm]; omega), by first | exact Nat.le_refl _ | exact Nat.zero_le _ | decide | (dsimp only [rm]; omega)⟩ ?_
        rintro _ _ ⟨rfl, o', τ', rfl, h33', ho, hK, hF⟩
        refine gl_aast (j := k) dX0_keep_40 rfl rfl (by omega) hK.1.lk (fun _ _ _ => ⟨by omega, _, rfl, Or.inl rfl⟩) ?_
        refine gl_mem (μ1 := mX o' (tR x 13 (va_up (x.2.2.2.1 13) k (some o.1)))) rfl ?_
        exact x_keepT L hV (by omega) h33' ho (va_up_self _ _ _) (fun j hj => va_up_ne _ _ hj) hK (fun k' tag c ht q => hF k' tag c ht q.new) (by omega) (by omega)
      · refine gl_aald (j := k) dX0_keep_24 rfl rfl (by omega) e ?_
        refine gl_ifnonnull (tgt := 41) dX0_keep_25 (by decide) ?_
        refine gl_mem (μ1 := mX o (tR x 13 (x.2.2.2.1 13))) rfl ?_
        exact x_keepT L hV (by omega) h33 ⟨rfl, rfl⟩ e (fun _ _ => rfl) ⟨hO, hA⟩ (fun _ _ _ _ q => q) (by omega) (by omega)
    · rw [if_pos h13]
      refine gl_bipush (v := (-4)) dX0_keep_16 (by decide) ?_
      exact gl_iret dX0_keep_18 rfl (XR.same hV) (hc := by first | exact Nat.zero_le _ | (dsimp only [rm]; omega)) (hs := by first | exact Nat.zero_le _ | (dsimp only [rm]; omega))
  · rw [if_neg (by simp [bI_fa h4])]
    refine gl_iconst (v := (-1)) dX0_keep_7 (by decide) ?_
    exact gl_iret dX0_keep_8 rfl (XR.same hV) (hc := by first | exact Nat.zero_le _ | (dsimp only [rm]; omega)) (hs := by first | exact Nat.zero_le _ | (dsimp only [rm]; omega))
end XK2

