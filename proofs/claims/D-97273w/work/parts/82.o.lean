/-! the component finds -/
set_option maxRecDepth 100000
def crR (w C : Nat → Int32) (n m a : Nat) : Int32 × Int32 := if oneB (nI a) then (-9, nI 0) else csS w C n a m
def ccS (w : Nat → Int32) (n m : Nat) (C : Nat → Int32) : Nat → (Nat → Int32) × Int32
  | 0 => (C, -9)
  | k + 1 => (upd (ccS w n m C k).1 (k + 1) (crR w (ccS w n m C k).1 n m (k + 1)).2, (crR w (ccS w n m C k).1 n m (k + 1)).1)
theorem cc_fn {w A F C : Nat → Int32} {n m : Nat} : ∀ k, k < 128 → (∀ i, 1 ≤ i → i ≤ k → (ccS w n m C k).1 i = cvF ((fnS w n m A F k).1 i) ∧ gdA i ((fnS w n m A F k).1 i)) ∧ (0 < k → (ccS w n m C k).2 = (fnS w n m A F k).2 k) := by
  intro k
  induction k with
  | zero => intro _; exact ⟨fun i h1 h2 => by omega, fun h => absurd h (Nat.lt_irrefl 0)⟩
  | succ k ih =>
    intro hk
    obtain ⟨ih1, -⟩ := ih (by omega)
    have key : (crR w (ccS w n m C k).1 n m (k + 1)).1 = (fnR w (fnS w n m A F k).1 n m (k + 1)).1 ∧ (crR w (ccS w n m C k).1 n m (k + 1)).2 = cvF (fnR w (fnS w n m A F k).1 n m (k + 1)).2 ∧ gdA (k + 1) (fnR w (fnS w n m A F k).1 n m (k + 1)).2 := by
      unfold crR fnR
      by_cases h1 : oneB (nI (k + 1)) = true
      · rw [if_pos h1, if_pos h1]
        refine ⟨rfl, ?_, Or.inr ⟨0, (bc_one (k + 1) hk (by omega)).2.2 h1, rfl⟩⟩
        unfold cvF
        rw [if_neg (by decide)]
      · rw [if_neg h1, if_neg h1]
        exact cs_fi hk (fun i h2 h3 => ih1 i h2 (by omega)) m
    refine ⟨fun i h1 h2 => ?_, fun _ => ?_⟩
    · show upd (ccS w n m C k).1 (k + 1) _ i = cvF (upd (fnS w n m A F k).1 (k + 1) _ i) ∧ gdA i (upd (fnS w n m A F k).1 (k + 1) _ i)
      by_cases e : i = k + 1
      · rw [e, pk_us, pk_us]; exact key.2
      · rw [pk_un e, pk_un e]; exact ih1 i h1 (by omega)
    · show (crR w (ccS w n m C k).1 n m (k + 1)).1 = upd (fnS w n m A F k).2 (k + 1) _ (k + 1)
      rw [pk_us]; exact key.1
theorem upd_2 (C : Nat → Int32) (a : Nat) (v u : Int32) : upd (upd C a v) a u = upd C a u := by
  funext j
  simp only [upd]
  by_cases h : j = a
  · rw [if_pos h, if_pos h]
  · rw [if_neg h, if_neg h, if_neg h]
section XFi
variable (L : Nat) {o : OX} {τ : Nat → Nat} {x : XY} {y : MY} {n m t : Nat}
theorem fiN_eq (w : Nat → Int32) (n a q : Nat) : nI a &&& (nI (fiY w n a q) ^^^ (-1)) = nI (fiN w n a q) := and_nI _
theorem x_partOf {w : Nat → Int32} (hX : RL o τ x w n m t) (hL : Lb w n m t) (C : Nat → Int32) (a q : Nat) (ha : a < 128) (hq : q < m) : Ct yX0_partOf gX0_partOf (L + 18) 0 0 [.ref 1, .int (nI a), .int (nI q)] (mX o (tA x 17 C)) (Rt (some (.int (mxI (C (fiY w n a q)) (C (fiN w n a q))))) (mX o (tA x 17 C))) := by
  refine Ct.of rfl rfl rfl rfl rfl ?_
  have hy := fiY_le w n a q
  have hn := fiN_le w n a q
  refine gl_iload_n dX0_partOf_0 rfl ?_
  refine gl_aload_n dX0_partOf_1 rfl ?_
  refine gl_iload_n dX0_partOf_2 rfl ?_
  refine gl_callV (x_fitSet L o (tA x 17 C) (show RL o τ (tA x 17 C) w n m t from hX) hL q hq) dX0_partOf_3 q727 q729 qs20 q74 q730 rfl hX0_fitSet rfl (rfl : vwCl[0]? = some (RX0, TX0, 30)) rfl rfl (rmOk (by omega) rfl) ⟨by first | exact Nat.le_refl _ | exact Nat.zero_le _ | decide | (dsimp only [rm]; omega), by first | exact Nat.le_refl _ | exact Nat.zero_le _ | decide | (dsimp only [rm]; omega)⟩ (rt1 ?_)
  refine gl_iand dX0_partOf_6 ?_
  refine gl_top (w := .int (nI (fiY w n a q))) (congrArg Value.int (and_nI _)) ?_
  refine gl_istore_n dX0_partOf_7 rfl rfl ?_
  refine gl_aload_n dX0_partOf_8 rfl ?_
  refine gl_get (k := 28) dX0_partOf_9 rfl (rfl : vwCl[0]? = some (RX0, TX0, 30)) in_X0 (by decide) q141 rfl ?_
  refine gl_iload_n dX0_partOf_12 rfl ?_
  refine gl_iald (j := fiY w n a q) dX0_partOf_13 rfl rfl (by omega) ?_
  refine gl_aload_n dX0_partOf_14 rfl ?_
  refine gl_get (k := 28) dX0_partOf_15 rfl (rfl : vwCl[0]? = some (RX0, TX0, 30)) in_X0 (by decide) q141 rfl ?_
  refine gl_iload_n dX0_partOf_18 rfl ?_
  refine gl_iload_n dX0_partOf_19 rfl ?_
  refine gl_iconst (v := (-1)) dX0_partOf_20 (by decide) ?_
  refine gl_ixor dX0_partOf_21 ?_
  refine gl_iand dX0_partOf_22 ?_
  refine gl_top (w := .int (nI (fiN w n a q))) (congrArg Value.int (fiN_eq w n a q)) ?_
  refine gl_iald (j := fiN w n a q) dX0_partOf_23 rfl rfl (by omega) ?_
  refine gl_callS (j_max L _ _ _) dX0_partOf_24 q859 q860 q94 q861 rfl hJ10_max rfl rfl (rmOk (by omega) rfl) ⟨by first | exact Nat.le_refl _ | exact Nat.zero_le _ | decide | (dsimp only [rm]; omega), by first | exact Nat.le_refl _ | exact Nat.zero_le _ | decide | (dsimp only [rm]; omega)⟩ (rt1 ?_)
  exact gl_iret dX0_partOf_27 rfl ⟨rfl, rfl⟩ (hc := by first | exact Nat.zero_le _ | (dsimp only [rm]; omega)) (hs := by first | exact Nat.zero_le _ | (dsimp only [rm]; omega))
theorem x_find1 {w : Nat → Int32} (hX : RL o τ x w n m t) (hL : Lb w n m t) {K : Option Value → Mem → Prop} {S a : Nat} (ha : a < 128) (h1 : 1 ≤ a) (C : Nat → Int32) {fst0 : Option Value} (kk : GL gX0_finds (rm (L + 19) 0 0) K 0 0 135 [some (.ref 1), some (.int (nI S)), some (.int (crR w C n m a).1), some (.int (nI a)), none, none] [] (mX o (tA x 17 (upd C a (crR w C n m a).2)))) : GL gX0_finds (rm (L + 19) 0 0) K 0 0 28 [some (.ref 1), some (.int (nI S)), fst0, some (.int (nI a)), none, none] [] (mX o (tA x 17 C)) := by
  have h7 := hL.c7
  have h7q := hL.q7
  obtain ⟨b1, b2, -⟩ := bc_one a ha h1
  unfold crR at kk
  refine gl_aload_n dX0_finds_28 rfl ?_
  refine gl_get (k := 28) dX0_finds_29 rfl (rfl : vwCl[0]? = some (RX0, TX0, 30)) in_X0 (by decide) q141 rfl ?_
  refine gl_iload_n dX0_finds_32 rfl ?_
  refine gl_iload_n dX0_finds_33 rfl ?_
  refine gl_callS (j_bc L _ _) dX0_finds_34 q889 q890 q95 q891 rfl hJ11_bitCount rfl rfl (rmOk (by omega) rfl) ⟨by first | exact Nat.le_refl _ | exact Nat.zero_le _ | decide | (dsimp only [rm]; omega), by first | exact Nat.le_refl _ | exact Nat.zero_le _ | decide | (dsimp only [rm]; omega)⟩ (rt1 ?_)
  refine gl_iconst (v := nI 1) dX0_finds_37 (by decide) ?_
  by_cases hone : oneB (nI a) = true
  · rw [if_pos hone] at kk
    refine gl_icmp_ne (tgt := 45) dX0_finds_38 (by decide) (fun h => absurd ((b1.mpr hone)) h) (fun _ => ?_)
    refine gl_iconst (v := nI 0) dX0_finds_41 (by decide) ?_
    refine gl_goto (tgt := 48) dX0_finds_42 (by decide) ?_
    refine gl_iast (j := a) dX0_finds_48 rfl rfl (by omega) ?_
    refine gl_mem (μ1 := mX o (tA x 17 (upd C a (nI 0)))) rfl ?_
    refine gl_bipush (v := (-9)) dX0_finds_49 (by decide) ?_
    refine gl_istore_n dX0_finds_51 rfl rfl ?_
    refine gl_iconst (v := nI 0) dX0_finds_52 (by decide) ?_
    refine gl_istore dX0_finds_53 rfl rfl ?_
    refine gl_iload dX0_finds_55 rfl ?_
    refine gl_aload_n dX0_finds_57 rfl ?_
    refine gl_get (k := 9) dX0_finds_58 rfl (rfl : vwCl[0]? = some (RX0, TX0, 30)) in_X0 (by decide) q122 rfl ?_
    by_cases hm : m = 0
    · refine gl_icmp_ge (tgt := 135) dX0_finds_61 (by decide) (fun _ => ?_) (fun h => absurd ((by show x.1 9 ≤ nI 0; rw [hX.askMany, hm]; exact (by decide : nI 0 ≤ nI 0))) h)
      refine gl_drop 4 ?_
      exact kk
    · refine gl_icmp_ge (tgt := 135) dX0_finds_61 (by decide) (fun h => absurd h ((by show ¬ x.1 9 ≤ nI 0; rw [hX.askMany]; exact nI_ge (by omega) (by omega)))) (fun _ => ?_)
      refine gl_iload_n dX0_finds_64 rfl ?_
      refine gl_callS (j_bc L _ _) dX0_finds_65 q889 q890 q95 q891 rfl hJ11_bitCount rfl rfl (rmOk (by omega) rfl) ⟨by first | exact Nat.le_refl _ | exact Nat.zero_le _ | decide | (dsimp only [rm]; omega), by first | exact Nat.le_refl _ | exact Nat.zero_le _ | decide | (dsimp only [rm]; omega)⟩ (rt1 ?_)
      refine gl_iconst (v := nI 1) dX0_finds_68 (by decide) ?_
      refine gl_icmp_le (tgt := 135) dX0_finds_69 (by decide) (fun _ => ?_) (fun h => absurd ((b2.mpr hone)) h)
      refine gl_drop 4 ?_
      exact kk
  · rw [if_neg hone] at kk
    refine gl_icmp_ne (tgt := 45) dX0_finds_38 (by decide) (fun _ => ?_) (fun h => absurd h ((fun z => hone (b1.mp z))))
    refine gl_ldc_w (v := 1048576) q858 dX0_finds_45 ?_
    refine gl_iast (j := a) dX0_finds_48 rfl rfl (by omega) ?_
    refine gl_mem (μ1 := mX o (tA x 17 (upd C a (csS w C n a 0).2))) rfl ?_
    refine gl_bipush (v := (-9)) dX0_finds_49 (by decide) ?_
    refine gl_istore_n dX0_finds_51 rfl rfl ?_
    refine gl_iconst (v := nI 0) dX0_finds_52 (by decide) ?_
    refine gl_istore dX0_finds_53 rfl rfl ?_
    refine gl_lcs (lc1 := [some (.ref 1), some (.int (nI S)), some (.int (csS w C n a 0).1), some (.int (nI a)), some (.int (nI 0)), none]) rfl ?_
    refine gl_loop (fun q => [some (.ref 1), some (.int (nI S)), some (.int (csS w C n a q).1), some (.int (nI a)), some (.int (nI q)), none]) (fun q => mX o (tA x 17 (upd C a (csS w C n a q).2))) m ?_ ?_
    · intro q hq ih
      clear kk
      have es : csS w C n a (q + 1) = if (¬ fiY w n a q = 0 ∧ ¬ fiY w n a q = a) ∧ nI 1 + mxI (C (fiY w n a q)) (C (fiN w n a q)) < (csS w C n a q).2 then (nI q, nI 1 + mxI (C (fiY w n a q)) (C (fiN w n a q))) else csS w C n a q := rfl
      rw [es] at ih
      clear es
      generalize csS w C n a q = p at ih ⊢
      have hy := fiY_le w n a q
      have hn := fiN_le w n a q
      have noup : ¬ ((¬ fiY w n a q = 0 ∧ ¬ fiY w n a q = a) ∧ nI 1 + mxI (C (fiY w n a q)) (C (fiN w n a q)) < p.2) → GL gX0_finds (rm (L + 19) 0 0) K 0 0 129 [some (.ref 1), some (.int (nI S)), some (.int p.1), some (.int (nI a)), some (.int (nI q)), some (.int (nI (fiY w n a q)))] [] (mX o (tA x 17 (upd C a p.2))) := by
        intro hc
        rw [if_neg hc] at ih
        refine gl_iinc (v := (nI (q + 1))) dX0_finds_129 rfl (nI_1 _) rfl rfl ?_
        refine gl_goto (tgt := 55) dX0_finds_132 (by decide) ?_
        refine gl_drop 5 ?_
        exact ih
      refine gl_iload dX0_finds_55 rfl ?_
      refine gl_aload_n dX0_finds_57 rfl ?_
      refine gl_get (k := 9) dX0_finds_58 rfl (rfl : vwCl[0]? = some (RX0, TX0, 30)) in_X0 (by decide) q122 rfl ?_
      refine gl_icmp_ge (tgt := 135) dX0_finds_61 (by decide) (fun h => absurd h ((by show ¬ x.1 9 ≤ nI q; rw [hX.askMany]; exact nI_ge hq (by omega)))) (fun _ => ?_)
      refine gl_iload_n dX0_finds_64 rfl ?_
      refine gl_callS (j_bc L _ _) dX0_finds_65 q889 q890 q95 q891 rfl hJ11_bitCount rfl rfl (rmOk (by omega) rfl) ⟨by first | exact Nat.le_refl _ | exact Nat.zero_le _ | decide | (dsimp only [rm]; omega), by first | exact Nat.le_refl _ | exact Nat.zero_le _ | decide | (dsimp only [rm]; omega)⟩ (rt1 ?_)
      refine gl_iconst (v := nI 1) dX0_finds_68 (by decide) ?_
      refine gl_icmp_le (tgt := 135) dX0_finds_69 (by decide) (fun h => absurd h ((fun z => hone (b2.mp z)))) (fun _ => ?_)
      refine gl_iload_n dX0_finds_72 rfl ?_
      refine gl_aload_n dX0_finds_73 rfl ?_
      refine gl_iload dX0_finds_74 rfl ?_
      refine gl_callV (x_fitSet L o (tA x 17 (upd C a p.2)) (show RL o τ (tA x 17 (upd C a p.2)) w n m t from hX) hL q hq) dX0_finds_76 q727 q729 qs20 q74 q730 rfl hX0_fitSet rfl (rfl : vwCl[0]? = some (RX0, TX0, 30)) rfl rfl (rmOk (by omega) rfl) ⟨by first | exact Nat.le_refl _ | exact Nat.zero_le _ | decide | (dsimp only [rm]; omega), by first | exact Nat.le_refl _ | exact Nat.zero_le _ | decide | (dsimp only [rm]; omega)⟩ (rt1 ?_)
      refine gl_iand dX0_finds_79 ?_
      refine gl_top (w := .int (nI (fiY w n a q))) (congrArg Value.int (and_nI _)) ?_
      refine gl_istore dX0_finds_80 rfl rfl ?_
      refine gl_iload dX0_finds_82 rfl ?_
      refine gl_if_eq (tgt := 129) dX0_finds_84 (by decide) (fun h84 => ?_) (fun h84 => ?_)
      · exact noup (fun z => z.1.1 (by have := (nI_eq (b := 0) (by omega) (by omega)).mp h84; exact this))
      · have hy0 : ¬ fiY w n a q = 0 := fun z => h84 (by rw [z]; rfl)
        refine gl_iload dX0_finds_87 rfl ?_
        refine gl_iload_n dX0_finds_89 rfl ?_
        refine gl_icmp_eq (tgt := 129) dX0_finds_90 (by decide) (fun h90 => ?_) (fun h90 => ?_)
        · exact noup (fun z => z.1.2 ((nI_eq (by omega) (by omega)).mp h90))
        · have hya : ¬ fiY w n a q = a := fun z => h90 (by rw [z])
          have hb' := (fi_both ha).mp ⟨hy0, hya⟩
          have hna : fiN w n a q ≠ a := fun z => by
            have hs := fi_sum w n a q
            have := pcn_pos (Nat.lt_of_le_of_lt hy ha) hy0
            rw [z] at hs
            omega
          have eP : mxI (upd C a p.2 (fiY w n a q)) (upd C a p.2 (fiN w n a q)) = mxI (C (fiY w n a q)) (C (fiN w n a q)) := by rw [pk_un hya, pk_un hna]
          refine gl_iconst (v := nI 1) dX0_finds_93 (by decide) ?_
          refine gl_aload_n dX0_finds_94 rfl ?_
          refine gl_iload_n dX0_finds_95 rfl ?_
          refine gl_iload dX0_finds_96 rfl ?_
          refine gl_callV (x_partOf L hX hL (upd C a p.2) a q ha hq) dX0_finds_98 q895 q897 qs32 q74 q898 rfl hX0_partOf rfl (rfl : vwCl[0]? = some (RX0, TX0, 30)) rfl rfl (rmOk (by omega) rfl) ⟨by first | exact Nat.le_refl _ | exact Nat.zero_le _ | decide | (dsimp only [rm]; omega), by first | exact Nat.le_refl _ | exact Nat.zero_le _ | decide | (dsimp only [rm]; omega)⟩ (rt1 ?_)
          rw [eP]
          refine gl_iadd dX0_finds_101 ?_
          refine gl_aload_n dX0_finds_102 rfl ?_
          refine gl_get (k := 28) dX0_finds_103 rfl (rfl : vwCl[0]? = some (RX0, TX0, 30)) in_X0 (by decide) q141 rfl ?_
          refine gl_iload_n dX0_finds_106 rfl ?_
          refine gl_iald (j := a) dX0_finds_107 rfl rfl (by omega) ?_
          refine gl_top (w := .int p.2) (congrArg Value.int pk_us) ?_
          refine gl_icmp_ge (tgt := 129) dX0_finds_108 (by decide) (fun h108 => ?_) (fun h108 => ?_)
          · exact noup (fun z => (k2_nlt h108) z.2)
          · rw [if_pos ⟨⟨hy0, hya⟩, k2_lt h108⟩] at ih
            refine gl_aload_n dX0_finds_111 rfl ?_
            refine gl_get (k := 28) dX0_finds_112 rfl (rfl : vwCl[0]? = some (RX0, TX0, 30)) in_X0 (by decide) q141 rfl ?_
            refine gl_iload_n dX0_finds_115 rfl ?_
            refine gl_iconst (v := nI 1) dX0_finds_116 (by decide) ?_
            refine gl_aload_n dX0_finds_117 rfl ?_
            refine gl_iload_n dX0_finds_118 rfl ?_
            refine gl_iload dX0_finds_119 rfl ?_
            refine gl_callV (x_partOf L hX hL (upd C a p.2) a q ha hq) dX0_finds_121 q895 q897 qs32 q74 q898 rfl hX0_partOf rfl (rfl : vwCl[0]? = some (RX0, TX0, 30)) rfl rfl (rmOk (by omega) rfl) ⟨by first | exact Nat.le_refl _ | exact Nat.zero_le _ | decide | (dsimp only [rm]; omega), by first | exact Nat.le_refl _ | exact Nat.zero_le _ | decide | (dsimp only [rm]; omega)⟩ (rt1 ?_)
            rw [eP]
            refine gl_iadd dX0_finds_124 ?_
            refine gl_iast (j := a) dX0_finds_125 rfl rfl (by omega) ?_
            refine gl_mem (μ1 := mX o (tA x 17 (upd C a (nI 1 + mxI (C (fiY w n a q)) (C (fiN w n a q)))))) (by rw [← upd_2 C a p.2 (nI 1 + mxI (C (fiY w n a q)) (C (fiN w n a q)))]; rfl) ?_
            refine gl_iload dX0_finds_126 rfl ?_
            refine gl_istore_n dX0_finds_128 rfl rfl ?_
            refine gl_iinc (v := (nI (q + 1))) dX0_finds_129 rfl (nI_1 _) rfl rfl ?_
            refine gl_goto (tgt := 55) dX0_finds_132 (by decide) ?_
            refine gl_drop 5 ?_
            exact ih
    · refine gl_iload dX0_finds_55 rfl ?_
      refine gl_aload_n dX0_finds_57 rfl ?_
      refine gl_get (k := 9) dX0_finds_58 rfl (rfl : vwCl[0]? = some (RX0, TX0, 30)) in_X0 (by decide) q122 rfl ?_
      refine gl_icmp_ge (tgt := 135) dX0_finds_61 (by decide) (fun _ => ?_) (fun h => absurd ((by show x.1 9 ≤ nI m; rw [hX.askMany]; exact nI_le (Nat.le_refl _) (by omega))) h)
      refine gl_drop 4 ?_
      exact kk
theorem x_finds (hV : RV o τ x y n m t) (set : Int32) : Ct yX0_finds gX0_finds (L + 19) 0 0 [.ref 1, .int set] (mX o x) (XR o (sp_finds y n m set)) := by
  refine Ct.of rfl rfl rfl rfl rfl ?_
  have hX := hV.rl
  have hL := hV.lb
  have h7 := hL.c7
  unfold sp_finds
  refine gl_iload_n dX0_finds_0 rfl ?_
  refine gl_iconst (v := nI 1) dX0_finds_1 (by decide) ?_
  refine gl_iconst (v := nI 1) dX0_finds_2 (by decide) ?_
  refine gl_aload_n dX0_finds_3 rfl ?_
  refine gl_get (k := 7) dX0_finds_4 rfl (rfl : vwCl[0]? = some (RX0, TX0, 30)) in_X0 (by decide) q119 rfl ?_
  refine gl_top (w := .int (nI n)) (congrArg Value.int hX.many) ?_
  refine gl_ishl dX0_finds_7 ?_
  refine gl_iconst (v := nI 1) dX0_finds_8 (by decide) ?_
  refine gl_isub dX0_finds_9 ?_
  refine gl_callS (x_isIn L _ _ _ _) dX0_finds_10 q298 q299 q74 q300 rfl hX0_isIn rfl rfl (rmOk (by omega) rfl) ⟨by first | exact Nat.le_refl _ | exact Nat.zero_le _ | decide | (dsimp only [rm]; omega), by first | exact Nat.le_refl _ | exact Nat.zero_le _ | decide | (dsimp only [rm]; omega)⟩ (rt1 ?_)
  refine gl_if_ne (tgt := 18) dX0_finds_13 (by decide) (fun h13 => ?_) (fun h13 => ?_)
  · have hr : inR set 1 (allC n) = true := bI_tr h13
    rw [if_pos hr]
    rw [allC_n n h7] at hr
    have h2n : 2 ^ n ≤ 2 ^ 7 := Nat.pow_le_pow_right (by omega) h7
    obtain ⟨S, hS1, hS2, rfl⟩ := inR_nat (a := 1) (by omega) (by omega) hr
    have hS : S < 128 := by omega
    rw [show ix (nI S) = S from nI_clamp (by omega)]
    obtain ⟨law1, law2⟩ := cc_fn (w := y.2.2 23) (A := y.2.2 31) (F := y.2.2 32) (C := x.2.2.1 17) (n := n) (m := m) S hS
    obtain ⟨l1, l2⟩ := law1 S (by omega) (Nat.le_refl _)
    have l3 := law2 (by omega)
    clear law1 law2
    rw [show fnS (y.2.2 23) n m (y.2.2 31) (y.2.2 32) S = fdU y n m S from rfl] at l1 l2 l3
    generalize fdU y n m S = u at l1 l2 l3 ⊢
    refine gl_bipush (v := (-9)) dX0_finds_18 (by decide) ?_
    refine gl_istore_n dX0_finds_20 rfl rfl ?_
    refine gl_iconst (v := nI 1) dX0_finds_21 (by decide) ?_
    refine gl_istore_n dX0_finds_22 rfl rfl ?_
    refine gl_mem (μ1 := mX o (tA x 17 (ccS (y.2.2 23) n m (x.2.2.1 17) 0).1)) rfl ?_
    refine gl_loop (fun k => [some (.ref 1), some (.int (nI S)), some (.int (ccS (y.2.2 23) n m (x.2.2.1 17) k).2), some (.int (nI (k + 1))), none, none]) (fun k => mX o (tA x 17 (ccS (y.2.2 23) n m (x.2.2.1 17) k).1)) S ?_ ?_
    · intro k hk ih
      refine gl_iload_n dX0_finds_23 rfl ?_
      refine gl_iload_n dX0_finds_24 rfl ?_
      refine gl_icmp_gt (tgt := 141) dX0_finds_25 (by decide) (fun h => absurd h (nI_nlt (by omega) (by omega))) (fun _ => ?_)
      refine x_find1 L hX hL (by omega) (by omega) _ ?_
      refine gl_iinc (v := (nI ((k+1) + 1))) dX0_finds_135 rfl (nI_1 _) rfl rfl ?_
      refine gl_goto (tgt := 23) dX0_finds_138 (by decide) ?_
      exact ih
    · generalize ccS (y.2.2 23) n m (x.2.2.1 17) S = cc at l1 l3 ⊢
      have hVx : RV o τ (tA x 17 cc.1) (fdS y u) n m t := hV
      refine gl_iload_n dX0_finds_23 rfl ?_
      refine gl_iload_n dX0_finds_24 rfl ?_
      refine gl_icmp_gt (tgt := 141) dX0_finds_25 (by decide) (fun _ => ?_) (fun h => absurd (nI_lt (by omega) (by omega)) h)
      refine gl_aload_n dX0_finds_141 rfl ?_
      refine gl_get (k := 28) dX0_finds_142 rfl (rfl : vwCl[0]? = some (RX0, TX0, 30)) in_X0 (by decide) q141 rfl ?_
      refine gl_iload_n dX0_finds_145 rfl ?_
      refine gl_iald (j := S) dX0_finds_146 rfl rfl (by omega) ?_
      refine gl_top (w := .int (cvF (u.1 S))) (congrArg Value.int l1) ?_
      refine gl_ldc_w (v := 1048576) q858 dX0_finds_147 ?_
      refine gl_top (w := .int (nI 1048576)) rfl ?_
      rcases gdA_cv l2 with ⟨v1, v2⟩ | ⟨z, hz, -, v1, v2⟩
      · rw [v2, v1, if_neg (by decide)]
        refine gl_icmp_lt (tgt := 158) dX0_finds_150 (by decide) (fun h => absurd h (nI_nlt (Nat.le_refl _) (by omega))) (fun _ => ?_)
        refine gl_bipush (v := (-9)) dX0_finds_153 (by decide) ?_
        refine gl_goto (tgt := 169) dX0_finds_155 (by decide) ?_
        exact gl_iret dX0_finds_169 rfl (XR.same hVx) (hc := by first | exact Nat.zero_le _ | (dsimp only [rm]; omega)) (hs := by first | exact Nat.zero_le _ | (dsimp only [rm]; omega))
      · rw [v2, v1, if_pos (nI_lt (by omega) (by omega))]
        refine gl_icmp_lt (tgt := 158) dX0_finds_150 (by decide) (fun _ => ?_) (fun h => absurd (nI_lt (by omega) (by omega)) h)
        refine gl_aload_n dX0_finds_158 rfl ?_
        refine gl_iload_n dX0_finds_159 rfl ?_
        refine gl_aload_n dX0_finds_160 rfl ?_
        refine gl_get (k := 28) dX0_finds_161 rfl (rfl : vwCl[0]? = some (RX0, TX0, 30)) in_X0 (by decide) q141 rfl ?_
        refine gl_iload_n dX0_finds_164 rfl ?_
        refine gl_iald (j := S) dX0_finds_165 rfl rfl (by omega) ?_
        refine gl_top (w := .int (nI z)) (congrArg Value.int (l1.trans v2)) ?_
        rw [l3]
        refine gl_callV (x_ask L o (tA x 17 cc.1) _ _) dX0_finds_166 q357 q359 qs3 q74 q360 rfl hX0_ask rfl (rfl : vwCl[0]? = some (RX0, TX0, 30)) rfl rfl (rmOk (by omega) rfl) ⟨by first | exact Nat.le_refl _ | exact Nat.zero_le _ | decide | (dsimp only [rm]; omega), by first | exact Nat.le_refl _ | exact Nat.zero_le _ | decide | (dsimp only [rm]; omega)⟩ (rt1 ?_)
        exact gl_iret dX0_finds_169 rfl ⟨rfl, o, tI (tA x 17 cc.1) 2 (u.2 S), τ, n, m, t, rfl, ⟨rfl, rfl⟩, hVx.ask _⟩ (hc := by first | exact Nat.zero_le _ | (dsimp only [rm]; omega)) (hs := by first | exact Nat.zero_le _ | (dsimp only [rm]; omega))
  · have z : inR set 1 (allC n) = false := bI_fa h13
    rw [if_neg (by simp [z])]
    refine gl_iconst (v := (-1)) dX0_finds_16 (by decide) ?_
    exact gl_iret dX0_finds_17 rfl (XR.same hV) (hc := by first | exact Nat.zero_le _ | (dsimp only [rm]; omega)) (hs := by first | exact Nat.zero_le _ | (dsimp only [rm]; omega))
end XFi

