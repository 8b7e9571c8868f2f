/-! the component: how a library is best parted -/
set_option maxRecDepth 100000
def szI (v : Int32) : Int32 := if v < 0 then -v else v
theorem x_size (L : Nat) (μ : Mem) (v : Int32) : Ct yX0_size gX0_size (L + 10) 0 0 [.int v] μ (Rt (some (.int (szI v))) μ) := by
  refine Ct.of rfl rfl rfl rfl rfl ?_
  refine gl_iload_n dX0_size_0 rfl ?_
  refine gl_if_ge (tgt := 9) dX0_size_1 (by decide) (fun h1 => ?_) (fun h1 => ?_)
  · refine gl_iload_n dX0_size_9 rfl ?_
    exact gl_iret dX0_size_10 rfl ⟨by unfold szI; rw [if_neg (k2_nlt h1)], rfl⟩ (hc := by first | exact Nat.zero_le _ | (dsimp only [rm]; omega)) (hs := by first | exact Nat.zero_le _ | (dsimp only [rm]; omega))
  · refine gl_iload_n dX0_size_4 rfl ?_
    refine gl_ineg dX0_size_5 ?_
    refine gl_goto (tgt := 10) dX0_size_6 (by decide) ?_
    exact gl_iret dX0_size_10 rfl ⟨by unfold szI; rw [if_pos (k2_lt h1)], rfl⟩ (hc := by first | exact Nat.zero_le _ | (dsimp only [rm]; omega)) (hs := by first | exact Nat.zero_le _ | (dsimp only [rm]; omega))
abbrev PCS : Type := Int32 × Int32 × Int32 × Int32
def pAw (w : Nat → Int32) (n k : Nat) : Int32 := szI (nI 2 * ptFit w n k - nI n)
def pWd (k : Nat) : Int32 := nI (k % 10) - nI (k / 10 % 10)
def pcS (w : Nat → Int32) (n : Nat) : Nat → PCS
  | 0 => (-9, 1048576, 1048576, nI 0)
  | k + 1 => if k % 10 < k / 10 % 10 then pcS w n k else if pAw w n k < (pcS w n k).2.1 ∨ (pAw w n k = (pcS w n k).2.1 ∧ pWd k < (pcS w n k).2.2.1) then (nI k, pAw w n k, pWd k, ptFit w n k) else pcS w n k
theorem pc_skip (w : Nat → Int32) (n : Nat) {k : Nat} : ∀ d, (∀ i, k ≤ i → i < k + d → i % 10 < i / 10 % 10) → pcS w n (k + d) = pcS w n k
  | 0, _ => rfl
  | d + 1, h => by
    show (if (k + d) % 10 < (k + d) / 10 % 10 then pcS w n (k + d) else _) = _
    rw [if_pos (h (k + d) (by omega) (by omega))]
    exact pc_skip w n d (fun i h1 h2 => h i h1 (by omega))
theorem nI_negsub {a b : Nat} (h : a < b) (hb : b < 2 ^ 30) : -(nI a - nI b) = nI (b - a) := by
  have e : nI (b - a) = nI b - nI a := (nI_sub (by omega)).symm
  rw [e, Int32.neg_sub]
theorem pt_nat (w : Nat → Int32) {n : Nat} (hn : n ≤ 7) (k : Nat) : ∃ F A, F ≤ 7 ∧ A ≤ 7 ∧ ptFit w n k = nI F ∧ ptOff w n k = nI A ∧ pAw w n k = nI A := by
  have e : ptFit w n k = nI (cN (fun c => suB w c (nI (k / 100)) (nI (k / 10 % 10)) (nI (k % 10))) n) := cntI_nI _ _
  have hF := cN_le (fun c => suB w c (nI (k / 100)) (nI (k / 10 % 10)) (nI (k % 10))) n
  generalize cN (fun c => suB w c (nI (k / 100)) (nI (k / 10 % 10)) (nI (k % 10))) n = F at e hF
  unfold ptOff pAw szI
  rw [e, nI_mul]
  by_cases h : n < 2 * F
  · refine ⟨F, 2 * F - n, by omega, by omega, rfl, ?_, ?_⟩
    · rw [if_pos (nI_lt h (by omega)), nI_sub (by omega)]
    · rw [nI_sub (by omega), if_neg (nI_pos (by omega))]
  · refine ⟨F, n - 2 * F, by omega, by omega, rfl, ?_, ?_⟩
    · rw [if_neg (nI_nlt (by omega) (by omega)), nI_sub (by omega)]
    · by_cases h2 : 2 * F = n
      · rw [h2, nI_sub (Nat.le_refl _), Nat.sub_self, if_neg (by decide)]
      · rw [if_pos (pk_sneg (by omega) (by omega)), nI_negsub (by omega) (by omega)]
theorem pc_pt (w : Nat → Int32) {n : Nat} (hn : n ≤ 7) : ∀ k, (pcS w n (k + 1)).1 = (ptS w n (k + 1)).1 ∧ (pcS w n (k + 1)).2.2.2 = (ptS w n (k + 1)).2.2 ∧ ∃ a b, a ≤ 7 ∧ b ≤ 9 ∧ (pcS w n (k + 1)).2.1 = nI a ∧ (pcS w n (k + 1)).2.2.1 = nI b ∧ (ptS w n (k + 1)).2.1 = nI (10 * a + b) := by
  intro k
  induction k with
  | zero =>
    obtain ⟨F, A, hF, hA, e1, e2, e3⟩ := pt_nat w hn 0
    have c1 : pcS w n 1 = (nI 0, nI A, nI 0, nI F) := by
      have s0 : pcS w n 1 = if 0 % 10 < 0 / 10 % 10 then pcS w n 0 else if pAw w n 0 < (pcS w n 0).2.1 ∨ (pAw w n 0 = (pcS w n 0).2.1 ∧ pWd 0 < (pcS w n 0).2.2.1) then (nI 0, pAw w n 0, pWd 0, ptFit w n 0) else pcS w n 0 := rfl
      rw [s0, if_neg (by omega), if_pos (Or.inl (by rw [e3]; exact nI_lt (b := 1048576) (by omega) (by omega))), e1, e3]
      rfl
    have c2 : ptS w n 1 = (nI 0, nI (10 * A + 0), nI F) := by
      have e4 : ptBad w n 0 = nI (10 * A + 0) := by
        unfold ptBad
        rw [e2, nI_mul]
        show nI (10 * A) + nI 0 - nI 0 = _
        rw [nI_add, nI_sub (by omega)]
        rfl
      show (if 0 % 10 < 0 / 10 % 10 then _ else if ptBad w n 0 < nI 99 then (nI 0, ptBad w n 0, ptFit w n 0) else _) = _
      rw [if_neg (by omega), e4, if_pos (nI_lt (by omega) (by omega)), e1]
    rw [c1, c2]
    exact ⟨rfl, rfl, A, 0, hA, by omega, rfl, rfl, rfl⟩
  | succ k ih =>
    have s1 : pcS w n (k + 1 + 1) = if (k + 1) % 10 < (k + 1) / 10 % 10 then pcS w n (k + 1) else if pAw w n (k + 1) < (pcS w n (k + 1)).2.1 ∨ (pAw w n (k + 1) = (pcS w n (k + 1)).2.1 ∧ pWd (k + 1) < (pcS w n (k + 1)).2.2.1) then (nI (k + 1), pAw w n (k + 1), pWd (k + 1), ptFit w n (k + 1)) else pcS w n (k + 1) := rfl
    have s2 : ptS w n (k + 1 + 1) = if (k + 1) % 10 < (k + 1) / 10 % 10 then ptS w n (k + 1) else if ptBad w n (k + 1) < (ptS w n (k + 1)).2.1 then (nI (k + 1), ptBad w n (k + 1), ptFit w n (k + 1)) else ptS w n (k + 1) := rfl
    rw [s1, s2]
    clear s1 s2
    generalize k + 1 = c at ih ⊢
    by_cases h : c % 10 < c / 10 % 10
    · rw [if_pos h, if_pos h]; exact ih
    · rw [if_neg h, if_neg h]
      obtain ⟨i1, i2, a, b, ha, hb, i3, i4, i5⟩ := ih
      obtain ⟨F, A, hF, hA, e1, e2, e3⟩ := pt_nat w hn c
      have ed : pWd c = nI (c % 10 - c / 10 % 10) := by unfold pWd; rw [nI_sub (by omega)]
      have e4 : ptBad w n c = nI (10 * A + (c % 10 - c / 10 % 10)) := by
        unfold ptBad
        rw [e2, nI_mul, nI_add, nI_sub (by omega)]
        congr 1
        omega
      have hd : c % 10 - c / 10 % 10 ≤ 9 := by omega
      generalize c % 10 - c / 10 % 10 = d at ed e4 hd
      rw [e3, ed, e4, i3, i4, i5]
      by_cases hlt : 10 * A + d < 10 * a + b
      · have hc : nI A < nI a ∨ (nI A = nI a ∧ nI d < nI b) := by
          by_cases h1 : A < a
          · exact Or.inl (nI_lt h1 (by omega))
          · exact Or.inr ⟨by rw [show A = a by omega], nI_lt (by omega) (by omega)⟩
        rw [if_pos hc, if_pos (nI_lt hlt (by omega))]
        exact ⟨rfl, rfl, A, d, hA, hd, rfl, rfl, rfl⟩
      · have hc : ¬ (nI A < nI a ∨ (nI A = nI a ∧ nI d < nI b)) := by
          rintro (z | ⟨z1, z2⟩)
          · have := (nI_ltI (by omega) (by omega)).mp z; omega
          · have := (nI_eq (by omega) (by omega)).mp z1
            have := (nI_ltI (by omega) (by omega)).mp z2
            omega
        rw [if_neg hc, if_neg (nI_nlt (by omega) (by omega))]
        exact ⟨i1, i2, a, b, ha, hb, i3, i4, i5⟩
theorem pc_ptK (w : Nat → Int32) {n : Nat} (hn : n ≤ 7) {K : Nat} (hK : 0 < K) : (pcS w n K).1 = (ptS w n K).1 ∧ (pcS w n K).2.2.2 = (ptS w n K).2.2 := by
  obtain ⟨k, rfl⟩ : ∃ k, K = k + 1 := ⟨K - 1, by omega⟩
  exact ⟨(pc_pt w hn k).1, (pc_pt w hn k).2.1⟩
theorem cd_1 {kd fr j : Nat} (h : fr + j < 10) : (100 * kd + 10 * fr + fr + j) / 100 = kd := by omega
theorem cd_2 {kd fr j : Nat} (h : fr + j < 10) : (100 * kd + 10 * fr + fr + j) / 10 % 10 = fr := by omega
theorem cd_3 {kd fr j : Nat} (h : fr + j < 10) : (100 * kd + 10 * fr + fr + j) % 10 = fr + j := by omega
def ptN (w : Nat → Int32) (n kd fr j : Nat) : Int32 := cntI (fun c => suB w c (nI kd) (nI fr) (nI (fr + j))) n
theorem pc_s (w : Nat → Int32) (n : Nat) {kd fr j : Nat} (h : fr + j < 10) : pcS w n (100 * kd + 10 * fr + fr + j + 1) = if szI (nI 2 * ptN w n kd fr j - nI n) < (pcS w n (100 * kd + 10 * fr + fr + j)).2.1 ∨ (szI (nI 2 * ptN w n kd fr j - nI n) = (pcS w n (100 * kd + 10 * fr + fr + j)).2.1 ∧ nI (fr + j) - nI fr < (pcS w n (100 * kd + 10 * fr + fr + j)).2.2.1) then (nI 100 * nI kd + nI 10 * nI fr + nI (fr + j), szI (nI 2 * ptN w n kd fr j - nI n), nI (fr + j) - nI fr, ptN w n kd fr j) else pcS w n (100 * kd + 10 * fr + fr + j) := by
  have s1 : pcS w n (100 * kd + 10 * fr + fr + j + 1) = if (100 * kd + 10 * fr + fr + j) % 10 < (100 * kd + 10 * fr + fr + j) / 10 % 10 then pcS w n (100 * kd + 10 * fr + fr + j) else if pAw w n (100 * kd + 10 * fr + fr + j) < (pcS w n (100 * kd + 10 * fr + fr + j)).2.1 ∨ (pAw w n (100 * kd + 10 * fr + fr + j) = (pcS w n (100 * kd + 10 * fr + fr + j)).2.1 ∧ pWd (100 * kd + 10 * fr + fr + j) < (pcS w n (100 * kd + 10 * fr + fr + j)).2.2.1) then (nI (100 * kd + 10 * fr + fr + j), pAw w n (100 * kd + 10 * fr + fr + j), pWd (100 * kd + 10 * fr + fr + j), ptFit w n (100 * kd + 10 * fr + fr + j)) else pcS w n (100 * kd + 10 * fr + fr + j) := rfl
  have eF : ptFit w n (100 * kd + 10 * fr + fr + j) = ptN w n kd fr j := by
    unfold ptFit mfN ptN
    rw [cd_1 h, cd_2 h, cd_3 h]
  have eW : pWd (100 * kd + 10 * fr + fr + j) = nI (fr + j) - nI fr := by
    unfold pWd
    rw [cd_2 h, cd_3 h]
  have eA : pAw w n (100 * kd + 10 * fr + fr + j) = szI (nI 2 * ptN w n kd fr j - nI n) := by
    unfold pAw
    rw [eF]
  have eC : nI (100 * kd + 10 * fr + fr + j) = nI 100 * nI kd + nI 10 * nI fr + nI (fr + j) := by rw [nI_mul, nI_mul, nI_add, nI_add, Nat.add_assoc (100 * kd + 10 * fr)]
  rw [s1, if_neg (by rw [cd_2 h, cd_3 h]; omega), eF, eW, eA, eC]
section XPt
variable (L : Nat) {o : OX} {τ : Nat → Nat} {x : XY} {y : MY} {n m t : Nat}
def pcL (p : PCS) (kd fr to_ : Option Value) : List (Option Value) := [some (.ref 1), some (.int p.1), some (.int p.2.1), some (.int p.2.2.1), some (.int p.2.2.2), kd, fr, to_, none, none]
theorem x_part1 {w : Nat → Int32} (hX : RL o τ x w n m t) (hL : Lb w n m t) {K : Option Value → Mem → Prop} {kd fr j : Nat} (hk : kd < 6) (hj : fr + j < 10) (p : PCS) (ih3 : GL gX0_parts (rm (L + 16) 0 0) K 0 0 48 (pcL (if szI (nI 2 * ptN w n kd fr j - nI n) < p.2.1 ∨ (szI (nI 2 * ptN w n kd fr j - nI n) = p.2.1 ∧ nI (fr + j) - nI fr < p.2.2.1) then (nI 100 * nI kd + nI 10 * nI fr + nI (fr + j), szI (nI 2 * ptN w n kd fr j - nI n), nI (fr + j) - nI fr, ptN w n kd fr j) else p) (some (.int (nI kd))) (some (.int (nI fr))) (some (.int (nI (fr + j + 1))))) [] (mX o x)) : GL gX0_parts (rm (L + 16) 0 0) K 0 0 48 (pcL p (some (.int (nI kd))) (some (.int (nI fr))) (some (.int (nI (fr + j))))) [] (mX o x) := by
  have h7 := hL.c7
  refine gl_iload dX0_parts_48 rfl ?_
  refine gl_bipush (v := nI 10) dX0_parts_50 (by decide) ?_
  refine gl_icmp_ge (tgt := 174) dX0_parts_52 (by decide) (fun h => absurd h (nI_ge (by omega) (by omega))) (fun _ => ?_)
  refine gl_iconst (v := nI 0) dX0_parts_55 (by decide) ?_
  refine gl_istore dX0_parts_56 rfl rfl ?_
  refine gl_iconst (v := nI 0) dX0_parts_58 (by decide) ?_
  refine gl_istore dX0_parts_59 rfl rfl ?_
  unfold ptN at ih3
  refine gl_loop (fun c => [some (.ref 1), some (.int p.1), some (.int p.2.1), some (.int p.2.2.1), some (.int p.2.2.2), some (.int (nI kd)), some (.int (nI fr)), some (.int (nI (fr + j))), some (.int (cntI (fun c => suB w c (nI kd) (nI fr) (nI (fr + j))) c)), some (.int (nI c))]) (fun _ => mX o x) n ?_ ?_
  · intro c hc ih4
    clear ih3
    obtain ⟨pc, e, -⟩ := hX.card c hc
    have es : cntI (fun c => suB w c (nI kd) (nI fr) (nI (fr + j))) (c + 1) = cntI (fun c => suB w c (nI kd) (nI fr) (nI (fr + j))) c + bI (suB w c (nI kd) (nI fr) (nI (fr + j))) := rfl
    refine gl_iload dX0_parts_61 rfl ?_
    refine gl_aload_n dX0_parts_63 rfl ?_
    refine gl_get (k := 7) dX0_parts_64 rfl (rfl : vwCl[0]? = some (RX0, TX0, 30)) in_X0 (by decide) q119 rfl ?_
    refine gl_icmp_ge (tgt := 105) dX0_parts_67 (by decide) (fun h => absurd h ((by rw [hX.many]; exact nI_ge hc (by omega)))) (fun _ => ?_)
    refine gl_iload dX0_parts_70 rfl ?_
    refine gl_aload_n dX0_parts_72 rfl ?_
    refine gl_get (k := 8) dX0_parts_73 rfl (rfl : vwCl[0]? = some (RX0, TX0, 30)) in_X0 (by decide) q121 rfl ?_
    refine gl_iload dX0_parts_76 rfl ?_
    refine gl_aald (j := c) dX0_parts_78 rfl rfl (by omega) e ?_
    refine gl_iload dX0_parts_79 rfl ?_
    refine gl_iload dX0_parts_81 rfl ?_
    refine gl_iload dX0_parts_83 rfl ?_
    refine gl_callS (x_isFor L o x hX hL c pc hc e _ _ _) dX0_parts_85 q690 q691 q74 q692 rfl hX0_isFor rfl rfl (rmOk (by omega) rfl) ⟨by first | exact Nat.le_refl _ | exact Nat.zero_le _ | decide | (dsimp only [rm]; omega), by first | exact Nat.le_refl _ | exact Nat.zero_le _ | decide | (dsimp only [rm]; omega)⟩ (rt1 ?_)
    refine gl_if_eq (tgt := 95) dX0_parts_88 (by decide) (fun h88 => ?_) (fun h88 => ?_)
    · rw [bI_fa h88] at es
      refine gl_iconst (v := nI 0) dX0_parts_95 (by decide) ?_
      refine gl_iadd dX0_parts_96 ?_
      refine gl_istore dX0_parts_97 rfl rfl ?_
      refine gl_iinc (v := (nI (c + 1))) dX0_parts_99 rfl (nI_1 _) rfl rfl ?_
      refine gl_goto (tgt := 61) dX0_parts_102 (by decide) ?_
      refine gl_lcs ?_ ih4
      rw [es]
      rfl
    · rw [bI_tr h88] at es
      refine gl_iconst (v := nI 1) dX0_parts_91 (by decide) ?_
      refine gl_goto (tgt := 96) dX0_parts_92 (by decide) ?_
      refine gl_iadd dX0_parts_96 ?_
      refine gl_istore dX0_parts_97 rfl rfl ?_
      refine gl_iinc (v := (nI (c + 1))) dX0_parts_99 rfl (nI_1 _) rfl rfl ?_
      refine gl_goto (tgt := 61) dX0_parts_102 (by decide) ?_
      refine gl_lcs ?_ ih4
      rw [es]
      rfl
  · generalize cntI (fun c => suB w c (nI kd) (nI fr) (nI (fr + j))) n = ft at ih3 ⊢
    generalize hA : szI (nI 2 * ft - nI n) = aw at ih3
    have upd : (aw < p.2.1 ∨ (aw = p.2.1 ∧ nI (fr + j) - nI fr < p.2.2.1)) → GL gX0_parts (rm (L + 16) 0 0) K 0 0 140 [some (.ref 1), some (.int p.1), some (.int p.2.1), some (.int p.2.2.1), some (.int p.2.2.2), some (.int (nI kd)), some (.int (nI fr)), some (.int (nI (fr + j))), some (.int ft), some (.int aw)] [] (mX o x) := by
      intro hcond
      rw [if_pos hcond] at ih3
      refine gl_bipush (v := nI 100) dX0_parts_140 (by decide) ?_
      refine gl_iload dX0_parts_142 rfl ?_
      refine gl_imul dX0_parts_144 ?_
      refine gl_bipush (v := nI 10) dX0_parts_145 (by decide) ?_
      refine gl_iload dX0_parts_147 rfl ?_
      refine gl_imul dX0_parts_149 ?_
      refine gl_iadd dX0_parts_150 ?_
      refine gl_iload dX0_parts_151 rfl ?_
      refine gl_iadd dX0_parts_153 ?_
      refine gl_istore_n dX0_parts_154 rfl rfl ?_
      refine gl_iload dX0_parts_155 rfl ?_
      refine gl_istore_n dX0_parts_157 rfl rfl ?_
      refine gl_iload dX0_parts_158 rfl ?_
      refine gl_iload dX0_parts_160 rfl ?_
      refine gl_isub dX0_parts_162 ?_
      refine gl_istore_n dX0_parts_163 rfl rfl ?_
      refine gl_iload dX0_parts_164 rfl ?_
      refine gl_istore dX0_parts_166 rfl rfl ?_
      refine gl_iinc (v := (nI ((fr+j) + 1))) dX0_parts_168 rfl (nI_1 _) rfl rfl ?_
      refine gl_goto (tgt := 48) dX0_parts_171 (by decide) ?_
      refine gl_drop 8 (gl_drop 9 ?_)
      exact ih3
    have noup : ¬ (aw < p.2.1 ∨ (aw = p.2.1 ∧ nI (fr + j) - nI fr < p.2.2.1)) → GL gX0_parts (rm (L + 16) 0 0) K 0 0 168 [some (.ref 1), some (.int p.1), some (.int p.2.1), some (.int p.2.2.1), some (.int p.2.2.2), some (.int (nI kd)), some (.int (nI fr)), some (.int (nI (fr + j))), some (.int ft), some (.int aw)] [] (mX o x) := by
      intro hcond
      rw [if_neg hcond] at ih3
      refine gl_iinc (v := (nI ((fr+j) + 1))) dX0_parts_168 rfl (nI_1 _) rfl rfl ?_
      refine gl_goto (tgt := 48) dX0_parts_171 (by decide) ?_
      refine gl_drop 8 (gl_drop 9 ?_)
      exact ih3
    refine gl_iload dX0_parts_61 rfl ?_
    refine gl_aload_n dX0_parts_63 rfl ?_
    refine gl_get (k := 7) dX0_parts_64 rfl (rfl : vwCl[0]? = some (RX0, TX0, 30)) in_X0 (by decide) q119 rfl ?_
    refine gl_icmp_ge (tgt := 105) dX0_parts_67 (by decide) (fun _ => ?_) (fun h => absurd ((by rw [hX.many]; exact nI_le (Nat.le_refl _) (by omega))) h)
    refine gl_iconst (v := nI 2) dX0_parts_105 (by decide) ?_
    refine gl_iload dX0_parts_106 rfl ?_
    refine gl_imul dX0_parts_108 ?_
    refine gl_aload_n dX0_parts_109 rfl ?_
    refine gl_get (k := 7) dX0_parts_110 rfl (rfl : vwCl[0]? = some (RX0, TX0, 30)) in_X0 (by decide) q119 rfl ?_
    refine gl_top (w := .int (nI n)) (congrArg Value.int hX.many) ?_
    refine gl_isub dX0_parts_113 ?_
    refine gl_callS (x_size L _ _) dX0_parts_114 q882 q883 q74 q884 rfl hX0_size rfl rfl (rmOk (by omega) rfl) ⟨by first | exact Nat.le_refl _ | exact Nat.zero_le _ | decide | (dsimp only [rm]; omega), by first | exact Nat.le_refl _ | exact Nat.zero_le _ | decide | (dsimp only [rm]; omega)⟩ (rt1 ?_)
    rw [hA]
    refine gl_istore dX0_parts_117 rfl rfl ?_
    refine gl_iload dX0_parts_119 rfl ?_
    refine gl_iload_n dX0_parts_121 rfl ?_
    refine gl_icmp_lt (tgt := 140) dX0_parts_122 (by decide) (fun h122 => ?_) (fun h122 => ?_)
    · exact upd (Or.inl h122)
    · refine gl_iload dX0_parts_125 rfl ?_
      refine gl_iload_n dX0_parts_127 rfl ?_
      refine gl_icmp_ne (tgt := 168) dX0_parts_128 (by decide) (fun h128 => ?_) (fun h128 => ?_)
      · exact noup (fun z => z.elim h122 (fun q => h128 q.1))
      · refine gl_iload dX0_parts_131 rfl ?_
        refine gl_iload dX0_parts_133 rfl ?_
        refine gl_isub dX0_parts_135 ?_
        refine gl_iload_n dX0_parts_136 rfl ?_
        refine gl_icmp_ge (tgt := 168) dX0_parts_137 (by decide) (fun h137 => ?_) (fun h137 => ?_)
        · exact noup (fun z => z.elim h122 (fun q => (k2_nlt h137) q.2))
        · exact upd (Or.inr ⟨h128, k2_lt h137⟩)
theorem pc_fr (w : Nat → Int32) (n kd : Nat) {fr : Nat} (h : fr < 10) : pcS w n (100 * kd + 10 * fr + fr) = pcS w n (100 * kd + 10 * fr) := pc_skip w n fr (fun i h1 h2 => by omega)
theorem x_parts (hV : RV o τ x y n m t) : Ct yX0_parts gX0_parts (L + 16) 0 0 [.ref 1] (mX o x) (XR o (sp_parts y n)) := by
  refine Ct.of rfl rfl rfl rfl rfl ?_
  have hX := hV.rl
  have hL := hV.lb
  have h7 := hL.c7
  unfold sp_parts
  refine gl_aload_n dX0_parts_0 rfl ?_
  refine gl_get (k := 7) dX0_parts_1 rfl (rfl : vwCl[0]? = some (RX0, TX0, 30)) in_X0 (by decide) q119 rfl ?_
  refine gl_top (w := .int (nI n)) (congrArg Value.int hX.many) ?_
  refine gl_if_ne (tgt := 10) dX0_parts_4 (by decide) (fun h4 => ?_) (fun h4 => ?_)
  · have hn0 : ¬ n = 0 := fun z => h4 (by rw [z]; rfl)
    rw [if_neg hn0]
    obtain ⟨law1, law2⟩ := pc_ptK (y.2.2 23) h7 (K := 600) (by omega)
    generalize ptS (y.2.2 23) n 600 = P at law1 law2 ⊢
    generalize hw : y.2.2 23 = w at hX hL law1 law2
    refine gl_bipush (v := (-9)) dX0_parts_10 (by decide) ?_
    refine gl_istore_n dX0_parts_12 rfl rfl ?_
    refine gl_ldc_w (v := 1048576) q858 dX0_parts_13 ?_
    refine gl_istore_n dX0_parts_16 rfl rfl ?_
    refine gl_ldc_w (v := 1048576) q858 dX0_parts_17 ?_
    refine gl_istore_n dX0_parts_20 rfl rfl ?_
    refine gl_iconst (v := nI 0) dX0_parts_21 (by decide) ?_
    refine gl_istore dX0_parts_22 rfl rfl ?_
    refine gl_iconst (v := nI 0) dX0_parts_24 (by decide) ?_
    refine gl_istore dX0_parts_25 rfl rfl ?_
    refine gl_lcs (lc1 := pcL (pcS w n (100 * 0)) (some (.int (nI 0))) none none) rfl ?_
    refine gl_loop (fun kd => pcL (pcS w n (100 * kd)) (some (.int (nI kd))) none none) (fun _ => mX o x) 6 ?_ ?_
    · intro kd hkd ih
      refine gl_iload dX0_parts_27 rfl ?_
      refine gl_bipush (v := nI 6) dX0_parts_29 (by decide) ?_
      refine gl_icmp_ge (tgt := 186) dX0_parts_31 (by decide) (fun h => absurd h (nI_ge hkd (by omega))) (fun _ => ?_)
      refine gl_iconst (v := nI 0) dX0_parts_34 (by decide) ?_
      refine gl_istore dX0_parts_35 rfl rfl ?_
      refine gl_lcs (lc1 := pcL (pcS w n (100 * kd + 10 * 0)) (some (.int (nI kd))) (some (.int (nI 0))) none) rfl ?_
      refine gl_loop (fun fr => pcL (pcS w n (100 * kd + 10 * fr)) (some (.int (nI kd))) (some (.int (nI fr))) none) (fun _ => mX o x) 10 ?_ ?_
      · intro fr hfr ih2
        clear ih
        refine gl_iload dX0_parts_37 rfl ?_
        refine gl_bipush (v := nI 10) dX0_parts_39 (by decide) ?_
        refine gl_icmp_ge (tgt := 180) dX0_parts_41 (by decide) (fun h => absurd h (nI_ge hfr (by omega))) (fun _ => ?_)
        refine gl_iload dX0_parts_44 rfl ?_
        refine gl_istore dX0_parts_46 rfl rfl ?_
        refine gl_lcs (lc1 := pcL (pcS w n (100 * kd + 10 * fr + fr + 0)) (some (.int (nI kd))) (some (.int (nI fr))) (some (.int (nI (fr + 0))))) (by
          rw [Nat.add_zero, Nat.add_zero, pc_fr w n kd hfr]
          rfl) ?_
        refine gl_loop (fun j => pcL (pcS w n (100 * kd + 10 * fr + fr + j)) (some (.int (nI kd))) (some (.int (nI fr))) (some (.int (nI (fr + j))))) (fun _ => mX o x) (10 - fr) ?_ ?_
        · intro j hj ih3
          have hj2 : fr + j < 10 := by omega
          rw [← Nat.add_assoc, pc_s w n hj2] at ih3
          exact x_part1 L hX hL hkd hj2 _ ih3
        · have e10 : fr + (10 - fr) = 10 := by omega
          have e11 : 100 * kd + 10 * fr + fr + (10 - fr) = 100 * kd + 10 * (fr + 1) := by omega
          rw [e10, e11]
          refine gl_iload dX0_parts_48 rfl ?_
          refine gl_bipush (v := nI 10) dX0_parts_50 (by decide) ?_
          refine gl_icmp_ge (tgt := 174) dX0_parts_52 (by decide) (fun _ => ?_) (fun h => absurd ((by decide)) h)
          refine gl_iinc (v := (nI (fr + 1))) dX0_parts_174 rfl (nI_1 _) rfl rfl ?_
          refine gl_goto (tgt := 37) dX0_parts_177 (by decide) ?_
          refine gl_drop 7 ?_
          exact ih2
      · rw [show 100 * kd + 10 * 10 = 100 * (kd + 1) from rfl]
        refine gl_iload dX0_parts_37 rfl ?_
        refine gl_bipush (v := nI 10) dX0_parts_39 (by decide) ?_
        refine gl_icmp_ge (tgt := 180) dX0_parts_41 (by decide) (fun _ => ?_) (fun h => absurd ((by decide)) h)
        refine gl_iinc (v := (nI (kd + 1))) dX0_parts_180 rfl (nI_1 _) rfl rfl ?_
        refine gl_goto (tgt := 27) dX0_parts_183 (by decide) ?_
        refine gl_drop 6 ?_
        exact ih
    · rw [show 100 * 6 = 600 from rfl]
      generalize pcS w n 600 = pp at law1 law2 ⊢
      refine gl_iload dX0_parts_27 rfl ?_
      refine gl_bipush (v := nI 6) dX0_parts_29 (by decide) ?_
      refine gl_icmp_ge (tgt := 186) dX0_parts_31 (by decide) (fun _ => ?_) (fun h => absurd ((by decide)) h)
      refine gl_aload_n dX0_parts_186 rfl ?_
      refine gl_iload dX0_parts_187 rfl ?_
      refine gl_iload_n dX0_parts_189 rfl ?_
      rw [law1, law2]
      refine gl_callV (x_ask L o x _ _) dX0_parts_190 q357 q359 qs3 q74 q360 rfl hX0_ask rfl (rfl : vwCl[0]? = some (RX0, TX0, 30)) rfl rfl (rmOk (by omega) rfl) ⟨by first | exact Nat.le_refl _ | exact Nat.zero_le _ | decide | (dsimp only [rm]; omega), by first | exact Nat.le_refl _ | exact Nat.zero_le _ | decide | (dsimp only [rm]; omega)⟩ (rt1 ?_)
      exact gl_iret dX0_parts_193 rfl ⟨rfl, o, _, τ, n, m, t, rfl, ⟨rfl, rfl⟩, hV.ask _⟩ (hc := by first | exact Nat.zero_le _ | (dsimp only [rm]; omega)) (hs := by first | exact Nat.zero_le _ | (dsimp only [rm]; omega))
  · have hn0 : n = 0 := by
      rcases Nat.eq_zero_or_pos n with z | z
      · exact z
      · exact absurd h4 (nI_ne0 z (by omega))
    rw [if_pos hn0]
    refine gl_bipush (v := (-4)) dX0_parts_7 (by decide) ?_
    exact gl_iret dX0_parts_9 rfl (XR.same hV) (hc := by first | exact Nat.zero_le _ | (dsimp only [rm]; omega)) (hs := by first | exact Nat.zero_le _ | (dsimp only [rm]; omega))
end XPt

