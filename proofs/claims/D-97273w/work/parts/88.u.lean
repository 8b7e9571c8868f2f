/-! the component copies from row to row -/
set_option maxRecDepth 100000
theorem sr_copyN : Sr gX0_copy eNPE 44 49 := fun D b base p l s m args meth c X => srch_hit eNPE (by decide) (by decide) (X.hts _ q313) (X.nx.1 _ n335) rfl
theorem sr_copyB : Sr gX0_copy eAIO 44 57 := fun D b base p l s m args meth c X => srch_miss eNPE (by decide) (by decide) (X.hts _ q313) (X.nx.2.1 _ nc_A) (srch_hit "java/lang/IndexOutOfBoundsException" (by decide) (by decide) (X.hts _ q370) (X.nx.1 _ n1441) rfl)
section EXt
variable {γ : GG} {R : Room} {K : Option Value → Mem → Prop} {cells slots pc index h : Nat} {lc : List (Option Value)} {st : List Value} {μ : Mem}
theorem gl_cpB {n0 n1 k0 k1 : Nat} {f g : Nat → Int32} {sp dp n : Int32} {w : String} (hd : decode γ.2.1 pc = .ok (.invokestatic index, 3)) (hlink : Cond.methodLink γ.1 index arraycopyName ∈ lw_all) (hl0 : lk μ n0 = some (.inl (0, k0, f))) (hl1 : lk μ n1 = some (.inl (0, k1, g))) (hw : cpF k0 k1 sp dp n = some w) (h0 : k0 < 2 ^ 31) (h1 : k1 < 2 ^ 31) (hroom : Nat.ble (st.map fun v => v.category).sum 8 = true) (hR : 10 ≤ R.frames ∧ 10248 ≤ R.locals) (hc : cells + 3 ≤ R.cells) (hs : slots + (316 + 10) ≤ R.slots) (hpos : 1 ≤ μ.1) (hex : γ.2.2.2.2.2 ≠ []) (hsr : Sr γ eAIO pc h) (kk : GL γ R K (cells + 3) (slots + (316 + 10)) h lc [.ref (μ.1 + 2)] (μ.1 + 3, μ.2)) : GL γ R K cells slots pc lc (.int n :: .int dp :: .ref n1 :: .int sp :: .ref n0 :: st) μ :=
  gl_exMN (names := "java/lang/IndexOutOfBoundsException" :: rEx) (rzn_b hd hlink hl0 hl1 hw) (by decide +kernel) (by decide +kernel) (by decide +kernel) (by decide +kernel) arm_AIOOBE (cpT_m w) (cpT_b h0 h1 hw) (by omega) hroom (by decide) hR hc hs hpos hex hsr kk
end EXt
/-- what refuses the copy, said as the model says it -/
theorem cpF_some {sl dl : Nat} {i j n : Int32} (hs : sl < 2 ^ 31) (hd : dl < 2 ^ 31) (hn : ¬ n < 0) (h : i < 0 ∨ j < 0 ∨ (nI sl).toInt < i.toInt + n.toInt ∨ (nI dl).toInt < j.toInt + n.toInt) : ∃ w, cpF sl dl i j n = some w := by
  rw [nI_toInt hs, nI_toInt hd] at h
  unfold cpF
  by_cases h1 : i < 0
  · exact ⟨_, if_pos h1⟩
  rw [if_neg h1]
  by_cases h2 : j < 0
  · exact ⟨_, if_pos h2⟩
  rw [if_neg h2, if_neg hn]
  by_cases h3 : i.toInt + n.toInt > sl
  · exact ⟨_, if_pos h3⟩
  rw [if_neg h3]
  by_cases h4 : j.toInt + n.toInt > dl
  · exact ⟨_, if_pos h4⟩
  rcases h with q | q | q | q
  · exact absurd q h1
  · exact absurd q h2
  · exact absurd q h3
  · exact absurd q h4
theorem cp_law {k q u z d a a2 : Nat} (f f2 F : Nat → Int32) (b1 : u + d ≤ a) (b2 : z + d ≤ a2) (hf : ∀ i, i < a → f i = F (40 * k + i)) (hf2 : ∀ i, i < a2 → f2 i = F (40 * q + i)) {i : Nat} (hi : i < a2) : va_cpy f f2 u z d i = va_cpy F F (40 * k + u) (40 * q + z) d (40 * q + i) := by
  unfold va_cpy
  by_cases h : z ≤ i ∧ i < z + d
  · rw [if_pos h, if_pos (by omega), hf _ (by omega)]
    exact congrArg F (by omega)
  · rw [if_neg h, if_neg (by omega), hf2 _ hi]
section XRc
variable (L : Nat) {o : OX} {τ : Nat → Nat} {x : XY} {y : MY} {n m t : Nat}
theorem x_copy (hV : RV o τ x y n m t) (r i s j v : Int32) : Ct yX0_copy gX0_copy (L + 13) 3 340 [.ref 1, .int r, .int i, .int s, .int j, .int v] (mX o x) (XR o (sp_copy y r i s j v)) := by
  refine Ct.ofW rfl (List.cons_ne_nil _ _) rfl rfl rfl ?_
  have h33 := hV.h33
  refine gl_iload_n dX0_copy_0 rfl ?_
  refine gl_callS (x_isRow L _ _) dX0_copy_1 q295 q296 q74 q297 rfl hX0_isRow rfl rfl (rmOk (by omega) rfl) ⟨by first | exact Nat.le_refl _ | exact Nat.zero_le _ | decide | (dsimp only [rm]; omega), by first | exact Nat.le_refl _ | exact Nat.zero_le _ | decide | (dsimp only [rm]; omega)⟩ (rt1 ?_)
  refine gl_if_eq (tgt := 14) dX0_copy_4 (by decide) (fun h4 => ?_) (fun h4 => ?_)
  · rw [show sp_copy y r i s j v = (-1, y) by simp [sp_copy, bI_fa h4]]
    refine gl_iconst (v := (-1)) dX0_copy_14 (by decide) ?_
    exact gl_iret dX0_copy_15 rfl (XR.same hV) (hc := by first | exact Nat.zero_le _ | (dsimp only [rm]; omega)) (hs := by first | exact Nat.zero_le _ | (dsimp only [rm]; omega))
  · have hr := bI_tr h4
    refine gl_iload_n dX0_copy_7 rfl ?_
    refine gl_callS (x_isRow L _ _) dX0_copy_8 q295 q296 q74 q297 rfl hX0_isRow rfl rfl (rmOk (by omega) rfl) ⟨by first | exact Nat.le_refl _ | exact Nat.zero_le _ | decide | (dsimp only [rm]; omega), by first | exact Nat.le_refl _ | exact Nat.zero_le _ | decide | (dsimp only [rm]; omega)⟩ (rt1 ?_)
    refine gl_if_ne (tgt := 16) dX0_copy_11 (by decide) (fun h11 => ?_) (fun h11 => ?_)
    · have hs := bI_tr h11
      obtain ⟨k, -, hk, rfl⟩ := inR_nat (a := 0) (b := 5) (by omega) (by omega) hr
      obtain ⟨q, -, hq, rfl⟩ := inR_nat (a := 0) (b := 5) (by omega) (by omega) hs
      unfold sp_copy
      rw [if_pos (by rw [hr, hs]; rfl), ix_nI (show k < 100 by omega), ix_nI (show q < 100 by omega)]
      refine gl_iload dX0_copy_16 rfl ?_
      refine gl_if_ge (tgt := 27) dX0_copy_18 (by decide) (fun h18 => ?_) (fun h18 => ?_)
      · rw [if_neg (k2_nlt h18)]
        rcases hV.row k (by omega) with ⟨e, es⟩ | ⟨p, a, f, e, hO, es, ha, hf⟩
        · rw [if_pos (Or.inl (by rw [es]; decide))]
          have hor : (∃ z, va_rf (x.2.2.2.1 3 q) = .ref z) ∨ va_rf (x.2.2.2.1 3 q) = .null := by
            cases x.2.2.2.1 3 q with
            | none => exact Or.inr rfl
            | some z => exact Or.inl ⟨z, rfl⟩
          refine gl_aload_n dX0_copy_27 rfl ?_
          refine gl_get (k := 5) dX0_copy_28 rfl (rfl : vwCl[0]? = some (RX0, TX0, 30)) in_X0 (by decide) q117 rfl ?_
          refine gl_iload_n dX0_copy_31 rfl ?_
          refine gl_aald (j := k) dX0_copy_32 rfl rfl (by omega) e ?_
          refine gl_iload_n dX0_copy_33 rfl ?_
          refine gl_aload_n dX0_copy_34 rfl ?_
          refine gl_get (k := 5) dX0_copy_35 rfl (rfl : vwCl[0]? = some (RX0, TX0, 30)) in_X0 (by decide) q117 rfl ?_
          refine gl_iload_n dX0_copy_38 rfl ?_
          refine gl_aald (j := q) dX0_copy_39 rfl rfl (by omega) rfl ?_
          refine gl_iload dX0_copy_40 rfl ?_
          refine gl_iload dX0_copy_42 rfl ?_
          refine gl_exNN (h := 49) (rzn_n1 hor dX0_copy_44 q371) rfl (exR (by omega)) (by dsimp only [rm]; omega) (by dsimp only [rm]; omega) (Nat.le_trans (by decide) h33) (List.cons_ne_nil _ _) sr_copyN ?_
          refine gl_mem (μ1 := mX (o.1 + 1, o.2) x) rfl ?_
          refine gl_astore dX0_copy_49 rfl rfl ?_
          refine gl_aload_n dX0_copy_51 rfl ?_
          refine gl_iconst (v := nI 1) dX0_copy_52 (by decide) ?_
          refine gl_callV (x_found L (o.1 + 1, o.2) x 1 (by omega)) dX0_copy_53 q301 q303 qs2 q74 q304 rfl hX0_found rfl (rfl : vwCl[0]? = some (RX0, TX0, 30)) rfl rfl (rmOk (by omega) rfl) ⟨by first | exact Nat.le_refl _ | exact Nat.zero_le _ | decide | (dsimp only [rm]; omega), by first | exact Nat.le_refl _ | exact Nat.zero_le _ | decide | (dsimp only [rm]; omega)⟩ (rt1 ?_)
          exact gl_iret dX0_copy_56 rfl (XR.skf 1 1 (by omega) hV) (hc := by first | exact Nat.zero_le _ | (dsimp only [rm]; omega)) (hs := by first | exact Nat.zero_le _ | (dsimp only [rm]; omega))
        · rcases hV.row q (by omega) with ⟨e2, es2⟩ | ⟨p2, a2, f2, e2, hO2, es2, ha2, hf2⟩
          · rw [if_pos (Or.inr (by rw [es2]; decide))]
            refine gl_aload_n dX0_copy_27 rfl ?_
            refine gl_get (k := 5) dX0_copy_28 rfl (rfl : vwCl[0]? = some (RX0, TX0, 30)) in_X0 (by decide) q117 rfl ?_
            refine gl_iload_n dX0_copy_31 rfl ?_
            refine gl_aald (j := k) dX0_copy_32 rfl rfl (by omega) e ?_
            refine gl_iload_n dX0_copy_33 rfl ?_
            refine gl_aload_n dX0_copy_34 rfl ?_
            refine gl_get (k := 5) dX0_copy_35 rfl (rfl : vwCl[0]? = some (RX0, TX0, 30)) in_X0 (by decide) q117 rfl ?_
            refine gl_iload_n dX0_copy_38 rfl ?_
            refine gl_aald (j := q) dX0_copy_39 rfl rfl (by omega) e2 ?_
            refine gl_iload dX0_copy_40 rfl ?_
            refine gl_iload dX0_copy_42 rfl ?_
            refine gl_exNN (h := 49) (rzn_n2 dX0_copy_44 q371) rfl (exR (by omega)) (by dsimp only [rm]; omega) (by dsimp only [rm]; omega) (Nat.le_trans (by decide) h33) (List.cons_ne_nil _ _) sr_copyN ?_
            refine gl_mem (μ1 := mX (o.1 + 1, o.2) x) rfl ?_
            refine gl_astore dX0_copy_49 rfl rfl ?_
            refine gl_aload_n dX0_copy_51 rfl ?_
            refine gl_iconst (v := nI 1) dX0_copy_52 (by decide) ?_
            refine gl_callV (x_found L (o.1 + 1, o.2) x 1 (by omega)) dX0_copy_53 q301 q303 qs2 q74 q304 rfl hX0_found rfl (rfl : vwCl[0]? = some (RX0, TX0, 30)) rfl rfl (rmOk (by omega) rfl) ⟨by first | exact Nat.le_refl _ | exact Nat.zero_le _ | decide | (dsimp only [rm]; omega), by first | exact Nat.le_refl _ | exact Nat.zero_le _ | decide | (dsimp only [rm]; omega)⟩ (rt1 ?_)
            exact gl_iret dX0_copy_56 rfl (XR.skf 1 1 (by omega) hV) (hc := by first | exact Nat.zero_le _ | (dsimp only [rm]; omega)) (hs := by first | exact Nat.zero_le _ | (dsimp only [rm]; omega))
          · rw [if_neg (by rw [es, es2]; rintro (z | z) <;> exact absurd z (nI_pos (by omega))), es, es2]
            refine gl_aload_n dX0_copy_27 rfl ?_
            refine gl_get (k := 5) dX0_copy_28 rfl (rfl : vwCl[0]? = some (RX0, TX0, 30)) in_X0 (by decide) q117 rfl ?_
            refine gl_iload_n dX0_copy_31 rfl ?_
            refine gl_aald (j := k) dX0_copy_32 rfl rfl (by omega) e ?_
            refine gl_iload_n dX0_copy_33 rfl ?_
            refine gl_aload_n dX0_copy_34 rfl ?_
            refine gl_get (k := 5) dX0_copy_35 rfl (rfl : vwCl[0]? = some (RX0, TX0, 30)) in_X0 (by decide) q117 rfl ?_
            refine gl_iload_n dX0_copy_38 rfl ?_
            refine gl_aald (j := q) dX0_copy_39 rfl rfl (by omega) e2 ?_
            refine gl_iload dX0_copy_40 rfl ?_
            refine gl_iload dX0_copy_42 rfl ?_
            by_cases hb : i < 0 ∨ j < 0 ∨ (nI a).toInt < i.toInt + v.toInt ∨ (nI a2).toInt < j.toInt + v.toInt
            · rw [if_pos hb]
              obtain ⟨w, hw⟩ := cpF_some (show a < 2 ^ 31 by omega) (show a2 < 2 ^ 31 by omega) (k2_nlt h18) hb
              refine gl_cpB (h := 57) dX0_copy_44 q371 hO.lk hO2.lk hw (by omega) (by omega) rfl (exR (by omega)) (by dsimp only [rm]; omega) (by dsimp only [rm]; omega) (Nat.le_trans (by decide) h33) (List.cons_ne_nil _ _) sr_copyB ?_
              refine gl_mem (μ1 := mX (o.1 + 3, o.2) x) rfl ?_
              refine gl_astore dX0_copy_57 rfl rfl ?_
              refine gl_aload_n dX0_copy_59 rfl ?_
              refine gl_iconst (v := nI 2) dX0_copy_60 (by decide) ?_
              refine gl_callV (x_found L (o.1 + 3, o.2) x 2 (by omega)) dX0_copy_61 q301 q303 qs2 q74 q304 rfl hX0_found rfl (rfl : vwCl[0]? = some (RX0, TX0, 30)) rfl rfl (rmOk (by omega) rfl) ⟨by first | exact Nat.le_refl _ | exact Nat.zero_le _ | decide | (dsimp only [rm]; omega), by first | exact Nat.le_refl _ | exact Nat.zero_le _ | decide | (dsimp only [rm]; omega)⟩ (rt1 ?_)
              exact gl_iret dX0_copy_64 rfl (XR.skf 3 2 (by omega) hV) (hc := by first | exact Nat.zero_le _ | (dsimp only [rm]; omega)) (hs := by first | exact Nat.zero_le _ | (dsimp only [rm]; omega))
            · rw [if_neg hb]
              obtain ⟨u, hu, rfl⟩ := nI_of (fun z => hb (Or.inl z))
              obtain ⟨z, hz, rfl⟩ := nI_of (fun z => hb (Or.inr (Or.inl z)))
              obtain ⟨d, hd, rfl⟩ := nI_of (k2_nlt h18)
              have b1 : u + d ≤ a := by
                have : ¬ (nI a).toInt < (nI u).toInt + (nI d).toInt := fun w => hb (Or.inr (Or.inr (Or.inl w)))
                rw [nI_toInt (show a < 2 ^ 31 by omega), nI_toInt hu, nI_toInt hd] at this
                omega
              have b2 : z + d ≤ a2 := by
                have : ¬ (nI a2).toInt < (nI z).toInt + (nI d).toInt := fun w => hb (Or.inr (Or.inr (Or.inr w)))
                rw [nI_toInt (show a2 < 2 ^ 31 by omega), nI_toInt hz, nI_toInt hd] at this
                omega
              rw [ix_nI (show u < 100 by omega), ix_nI (show z < 100 by omega), ix_nI (show d < 100 by omega)]
              refine gl_copy (n0 := p) (n1 := p2) (sp := u) (dp := z) (k := d) dX0_copy_44 q371 hO.lk hO2.lk rfl rfl rfl b1 b2 (by omega) (by omega) rfl (copyR (by omega)) ?_
              refine gl_mem (up_hi hO2.1.1) ?_
              refine gl_iconst (v := nI 1) dX0_copy_47 (by decide) ?_
              exact gl_iret dX0_copy_48 rfl ⟨rfl, oP o p2 _, x, τ, n, m, t, rfl, ⟨rfl, rfl⟩, hV.rowS (r := q) (o' := oP o p2 (.inl (0, a2, va_cpy f f2 u z d))) (R' := x.2.2.2.1 3) (S := y.2.2 19) (F := va_cpy (y.2.2 20) (y.2.2 20) (40 * k + u) (40 * q + z) d) (by omega) h33 (fun _ _ _ ht w => w.put hO2.2.1 ht) (fun _ _ => rfl) (fun _ _ => rfl) (fun j' hj' i hi => by unfold va_cpy; rw [if_neg (by omega)]) (Or.inr ⟨p2, a2, _, e2, hO2.puts, es2, ha2, fun i hi => cp_law f f2 (y.2.2 20) (by omega) (by omega) hf hf2 hi⟩)⟩ (hc := by first | exact Nat.zero_le _ | (dsimp only [rm]; omega)) (hs := by first | exact Nat.zero_le _ | (dsimp only [rm]; omega))
      · rw [if_pos (k2_lt h18)]
        refine gl_aload_n dX0_copy_21 rfl ?_
        refine gl_iconst (v := nI 5) dX0_copy_22 (by decide) ?_
        refine gl_callV (x_found L o x 5 (by omega)) dX0_copy_23 q301 q303 qs2 q74 q304 rfl hX0_found rfl (rfl : vwCl[0]? = some (RX0, TX0, 30)) rfl rfl (rmOk (by omega) rfl) ⟨by first | exact Nat.le_refl _ | exact Nat.zero_le _ | decide | (dsimp only [rm]; omega), by first | exact Nat.le_refl _ | exact Nat.zero_le _ | decide | (dsimp only [rm]; omega)⟩ (rt1 ?_)
        exact gl_iret dX0_copy_26 rfl (XR.skf 0 5 (by omega) hV) (hc := by first | exact Nat.zero_le _ | (dsimp only [rm]; omega)) (hs := by first | exact Nat.zero_le _ | (dsimp only [rm]; omega))
    · rw [show sp_copy y r i s j v = (-1, y) by simp [sp_copy, bI_fa h11]]
      refine gl_iconst (v := (-1)) dX0_copy_14 (by decide) ?_
      exact gl_iret dX0_copy_15 rfl (XR.same hV) (hc := by first | exact Nat.zero_le _ | (dsimp only [rm]; omega)) (hs := by first | exact Nat.zero_le _ | (dsimp only [rm]; omega))
end XRc

