/-! lots drawn by the component -/
set_option maxRecDepth 100000
def clrN : Nat → Int32 → Int32
  | 0, v => v
  | l + 1, v => clrN l (v &&& (v - nI 1))
def tb7 (b0 b1 b2 b3 b4 b5 b6 : Bool) : Nat → Bool
  | 0 => b0
  | 1 => b1
  | 2 => b2
  | 3 => b3
  | 4 => b4
  | 5 => b5
  | 6 => b6
  | _ => false
theorem pk7 : ∀ b0 b1 b2 b3 b4 b5 b6 : Bool, ∀ l, l < 7 → l < cN (tb7 b0 b1 b2 b3 b4 b5 b6) 7 → ntzE (clrN l (orI (tb7 b0 b1 b2 b3 b4 b5 b6) 7)) = nI (pickF (tb7 b0 b1 b2 b3 b4 b5 b6) 7 l 0) := by decide +kernel
theorem pick_eq {p q : Nat → Bool} : ∀ (f l c : Nat), (∀ i, c ≤ i → i < c + f → p i = q i) → pickF p f l c = pickF q f l c := by
  intro f
  induction f with
  | zero => intro l c _; rfl
  | succ f ih =>
    intro l c h
    unfold pickF
    rw [h c (by omega) (by omega)]
    split
    · rfl
    · exact ih _ _ (fun i h1 h2 => h i (by omega) (by omega))
theorem pick_cnt {p : Nat → Bool} {n : Nat} : ∀ (f l c : Nat), c + f = n → cN p c + l < cN p n → cN p (pickF p f l c) = cN p c + l := by
  intro f
  induction f with
  | zero => intro l c h1 h2; have : c = n := by omega
            rw [this] at h2; omega
  | succ f ih =>
    intro l c h1 h2
    have e1 : cN p (c + 1) = cN p c + (p c).toNat := rfl
    unfold pickF
    by_cases h : l = 0 ∧ p c = true
    · rw [if_pos h, h.1]; rfl
    · rw [if_neg h]
      cases e : p c
      · rw [e] at e1
        simp only [Bool.toNat_false] at e1
        rw [if_neg (by decide), ih l (c + 1) (by omega) (by omega), e1]
        rfl
      · have : ¬ l = 0 := fun z => h ⟨z, e⟩
        rw [e] at e1
        simp only [Bool.toNat_true] at e1
        rw [if_pos rfl, ih (l - 1) (c + 1) (by omega) (by omega), e1]
        omega
theorem pick_un {p : Nat → Bool} {r s : Nat} (hr : p r = true) (hs : p s = true) (e : cN p r = cN p s) : r = s := by
  rcases Nat.lt_trichotomy r s with h | h | h
  · have := cN_mono p (show r + 1 ≤ s by omega)
    rw [show cN p (r + 1) = cN p r + (p r).toNat from rfl, hr] at this
    simp at this
    omega
  · exact h
  · have := cN_mono p (show s + 1 ≤ r by omega)
    rw [show cN p (s + 1) = cN p s + (p s).toNat from rfl, hs] at this
    simp at this
    omega
theorem cN_pad (p : Nat → Bool) (n : Nat) : ∀ k, cN (fun i => decide (i < n) && p i) (n + k) = cN p n
  | 0 => cN_eq (fun c hc => by simp [show c < n from hc])
  | k + 1 => by
    show cN (fun i => decide (i < n) && p i) (n + k) + (decide (n + k < n) && p (n + k)).toNat = _
    rw [cN_pad p n k, show decide (n + k < n) = false by simp]
    rfl
theorem pick_bits (p : Nat → Bool) {n l : Nat} (hn : n ≤ 7) (hl : l < cN p n) : ntzE (clrN l (orI p n)) = nI (pickF p n l 0) := by
  have hln := cN_le p n
  have e7 : cN (fun i => decide (i < n) && p i) 7 = cN p n := by
    have := cN_pad p n (7 - n)
    rwa [show n + (7 - n) = 7 by omega] at this
  rw [orI_pad p hn]
  generalize hp' : (fun i => decide (i < n) && p i) = p' at e7
  have e1 := pk7 (p' 0) (p' 1) (p' 2) (p' 3) (p' 4) (p' 5) (p' 6) l (by omega) (by
    show l < cN p' 7
    omega)
  rw [show orI (tb7 (p' 0) (p' 1) (p' 2) (p' 3) (p' 4) (p' 5) (p' 6)) 7 = orI p' 7 from rfl, pick_eq (q := p') 7 l 0 (fun i h1 h2 => by
    match i, h2 with
    | 0, _ => rfl
    | 1, _ => rfl
    | 2, _ => rfl
    | 3, _ => rfl
    | 4, _ => rfl
    | 5, _ => rfl
    | 6, _ => rfl)] at e1
  rw [e1]
  congr 1
  obtain ⟨a1, a2⟩ := pick_ok (p := p') (n := 7) 7 l 0 (by omega) (by rw [e7]; show 0 + l < _; omega)
  obtain ⟨b1, b2⟩ := pick_ok (p := p) (n := n) n l 0 (by omega) (by show 0 + l < _; omega)
  have a3 := pick_cnt (p := p') (n := 7) 7 l 0 (by omega) (by rw [e7]; show 0 + l < _; omega)
  have b3 := pick_cnt (p := p) (n := n) n l 0 (by omega) (by show 0 + l < _; omega)
  generalize pickF p' 7 l 0 = r' at a1 a2 a3 ⊢
  generalize pickF p n l 0 = r at b1 b2 b3 ⊢
  subst hp'
  dsimp only at a2
  rw [Bool.and_eq_true, decide_eq_true_eq] at a2
  have a4 : cN (fun i => decide (i < n) && p i) r' = cN p r' := cN_eq (fun c hc => by simp [show c < n by omega])
  exact pick_un a2.2 b2 (by rw [← a4, a3, b3]; rfl)
theorem orI_ne0 {p : Nat → Bool} {n : Nat} (hn : n ≤ 7) : orI p n = nI 0 ↔ ¬ 0 < cN p n := by
  constructor
  · intro h hc
    obtain ⟨c, hc, hp⟩ := cN_pos hc
    have e := bit_orI p n c (by omega) (by omega)
    rw [h, bit_0 c (by omega), hp] at e
    simp [hc] at e
  · intro h
    refine orI_0 p n (fun c hc => ?_)
    cases e : p c with
    | false => rfl
    | true =>
      exfalso
      have h1 := cN_mono p (show c + 1 ≤ n by omega)
      rw [show cN p (c + 1) = cN p c + (p c).toNat from rfl, e] at h1
      simp at h1
      omega
section XLt
variable (L : Nat) {o : OX} {τ : Nat → Nat} {x : XY} {y : MY} {n m t : Nat}
theorem x_lots (hV : RV o τ x y n m t) (N seed : Int32) : Ct yX0_lots gX0_lots (L + 18) 0 0 [.ref 1, .int N, .int seed] (mX o x) (XR o (sp_lots y n m t N seed)) := by
  refine Ct.of rfl rfl rfl rfl rfl ?_
  have hc7 := hV.lb.c7
  have h7q := hV.lb.q7
  have h40 := hV.lb.t40
  unfold sp_lots
  refine gl_iload_n dX0_lots_0 rfl ?_
  refine gl_iconst (v := nI 1) dX0_lots_1 (by decide) ?_
  refine gl_bipush (v := nI 20) dX0_lots_2 (by decide) ?_
  refine gl_callS (x_isIn L _ _ _ _) dX0_lots_4 q298 q299 q74 q300 rfl hX0_isIn rfl rfl (rmOk (by omega) rfl) ⟨by first | exact Nat.le_refl _ | exact Nat.zero_le _ | decide | (dsimp only [rm]; omega), by first | exact Nat.le_refl _ | exact Nat.zero_le _ | decide | (dsimp only [rm]; omega)⟩ (rt1 ?_)
  refine gl_if_eq (tgt := 21) dX0_lots_7 (by decide) (fun h7 => ?_) (fun h7 => ?_)
  · have z : inR N 1 20 = false := bI_fa h7
    rw [if_neg (by simp [z])]
    refine gl_iconst (v := (-1)) dX0_lots_21 (by decide) ?_
    exact gl_iret dX0_lots_22 rfl (XR.same hV) (hc := by first | exact Nat.zero_le _ | (dsimp only [rm]; omega)) (hs := by first | exact Nat.zero_le _ | (dsimp only [rm]; omega))
  · have hN : inR N (nI 1) (nI 20) = true := bI_tr h7
    refine gl_iload_n dX0_lots_10 rfl ?_
    refine gl_iconst (v := nI 1) dX0_lots_11 (by decide) ?_
    refine gl_ldc_w (v := 2147483646) q952 dX0_lots_12 ?_
    refine gl_callS (x_isIn L _ _ _ _) dX0_lots_15 q298 q299 q74 q300 rfl hX0_isIn rfl rfl (rmOk (by omega) rfl) ⟨by first | exact Nat.le_refl _ | exact Nat.zero_le _ | decide | (dsimp only [rm]; omega), by first | exact Nat.le_refl _ | exact Nat.zero_le _ | decide | (dsimp only [rm]; omega)⟩ (rt1 ?_)
    refine gl_if_ne (tgt := 23) dX0_lots_18 (by decide) (fun h18 => ?_) (fun h18 => ?_)
    · have hS : inR seed (nI 1) 2147483646 = true := bI_tr h18
      rw [if_pos (by rw [show inR N 1 20 = true from hN]; exact hS)]
      obtain ⟨N, hN1, hN2, rfl⟩ := inR_nat (by omega) (by omega) hN
      obtain ⟨sd, hs1, hs2, rfl⟩ := inR_nat (b := 2147483646) (by omega) (by omega) hS
      rw [ix_nI (show N < 100 by omega), show ix (nI sd) = sd from nI_clamp (by omega)]
      refine gl_aload_n dX0_lots_23 rfl ?_
      refine gl_get (k := 9) dX0_lots_24 rfl (rfl : vwCl[0]? = some (RX0, TX0, 30)) in_X0 (by decide) q122 rfl ?_
      refine gl_top (w := .int (nI m)) (congrArg Value.int hV.rl.askMany) ?_
      refine gl_if_ne (tgt := 33) dX0_lots_27 (by decide) (fun h27 => ?_) (fun h27 => ?_)
      · have hm : 0 < m := by
          rcases Nat.eq_zero_or_pos m with z | z
          · rw [z] at h27; exact absurd rfl h27
          · exact z
        rw [if_neg (by omega)]
        refine gl_aload_n dX0_lots_33 rfl ?_
        refine gl_get (k := 19) dX0_lots_34 rfl (rfl : vwCl[0]? = some (RX0, TX0, 30)) in_X0 (by decide) q132 rfl ?_
        refine gl_top (w := .int (nI t)) (congrArg Value.int hV.rl.takingMany) ?_
        refine gl_iload_n dX0_lots_37 rfl ?_
        refine gl_iadd dX0_lots_38 ?_
        rw [nI_add]
        refine gl_bipush (v := nI 40) dX0_lots_39 (by decide) ?_
        refine gl_icmp_le (tgt := 47) dX0_lots_41 (by decide) (fun h41 => ?_) (fun h41 => ?_)
        · have htn : t + N ≤ 40 := (nI_leI (by omega) (by omega)).mp h41
          rw [if_neg (by omega)]
          refine gl_iload_n dX0_lots_47 rfl ?_
          refine gl_i2l dX0_lots_48 ?_
          rw [nI_l (by omega)]
          refine gl_lstore_n dX0_lots_49 rfl rfl ?_
          refine gl_iconst (v := nI 0) dX0_lots_50 (by decide) ?_
          refine gl_istore dX0_lots_51 rfl rfl ?_
          refine gl_iconst (v := nI 0) dX0_lots_53 (by decide) ?_
          refine gl_istore dX0_lots_54 rfl rfl ?_
          have loop : ∀ (d k : Nat), k + d = N → ∀ x' : XY, RV o τ x' (sA y 23 (ltS n m t (y.2.2 23) sd k).1) n m (t + (ltS n m t (y.2.2 23) sd k).2.2) → GL gX0_lots (rm (L + 18) 0 0) (XR o (nI (ltS n m t (y.2.2 23) sd N).2.2, sA y 23 (ltS n m t (y.2.2 23) sd N).1)) 0 0 56 [some (.ref 1), some (.int (nI N)), some (.int (nI sd)), some (.long (lN (ltS n m t (y.2.2 23) sd k).2.1)), none, some (.int (nI (ltS n m t (y.2.2 23) sd k).2.2)), some (.int (nI k)), none, none, none] [] (mX o x') := by
            intro d
            induction d with
            | zero =>
              intro k hk x' hV'
              have ek : k = N := by omega
              subst ek
              refine gl_iload dX0_lots_56 rfl ?_
              refine gl_iload_n dX0_lots_58 rfl ?_
              refine gl_icmp_ge (tgt := 172) dX0_lots_59 (by decide) (fun _ => ?_) (fun h => absurd (nI_le (Nat.le_refl _) (by omega)) h)
              refine gl_iload dX0_lots_172 rfl ?_
              exact gl_iret dX0_lots_174 rfl (XR.same hV') (hc := by first | exact Nat.zero_le _ | (dsimp only [rm]; omega)) (hs := by first | exact Nat.zero_le _ | (dsimp only [rm]; omega))
            | succ d ih =>
              intro k hk x' hV'
              obtain ⟨q1, q2, q3⟩ := lt_ok hV.lb hm (show sd < 2147483647 by omega) (show t + k ≤ 40 by omega)
              have es : ltS n m t (y.2.2 23) sd (k + 1) = ltStep n m t (ltS n m t (y.2.2 23) sd k) := rfl
              have ih := ih (k + 1) (by omega)
              rw [es] at ih
              clear es
              generalize ltS n m t (y.2.2 23) sd k = u at q1 q2 q3 ih hV' ⊢
              obtain ⟨W, aa, tk⟩ := u
              dsimp only at q1 q2 q3 hV' ih ⊢
              have hX := hV'.rl
              have hL := hV'.lb
              rw [show (sA y 23 W).2.2 23 = W from rfl] at hX hL
              have hx : ltX aa < 2147483647 := Nat.mod_lt _ (by omega)
              have hq : ltX aa % m < m := Nat.mod_lt _ hm
              refine gl_iload dX0_lots_56 rfl ?_
              refine gl_iload_n dX0_lots_58 rfl ?_
              refine gl_icmp_ge (tgt := 172) dX0_lots_59 (by decide) (fun h => absurd h (nI_ge (by omega) (by omega))) (fun _ => ?_)
              refine gl_ldc2 (v := 48271) q953 dX0_lots_62 ?_
              refine gl_lload_n dX0_lots_65 rfl ?_
              refine gl_lmul dX0_lots_66 ?_
              refine gl_ldc2 (v := 2147483647) q954 dX0_lots_67 ?_
              refine gl_lrem dX0_lots_70 (by decide) ?_
              refine gl_top (w := .long (lN (ltX aa))) (by
                rw [show (48271 : Int64) = lN 48271 from rfl, show (2147483647 : Int64) = lN 2147483647 from rfl, lN_mul, lN_rem (by omega) (by omega) (by omega)]
                rfl) ?_
              refine gl_lstore_n dX0_lots_71 rfl rfl ?_
              refine gl_lload_n dX0_lots_72 rfl ?_
              refine gl_aload_n dX0_lots_73 rfl ?_
              refine gl_get (k := 9) dX0_lots_74 rfl (rfl : vwCl[0]? = some (RX0, TX0, 30)) in_X0 (by decide) q122 rfl ?_
              refine gl_top (w := .int (nI m)) (congrArg Value.int hX.askMany) ?_
              refine gl_i2l dX0_lots_77 ?_
              rw [nI_l (show m < 2 ^ 31 by omega)]
              refine gl_lrem dX0_lots_78 (by intro z; have := (lN_eq (a := m) (b := 0) (by omega) (by omega)).mp z; omega) ?_
              refine gl_top (w := .long (lN (ltX aa % m))) (by rw [lN_rem (by omega) hm (by omega)]) ?_
              refine gl_l2i dX0_lots_79 ?_
              refine gl_top (w := .int (nI (ltX aa % m))) (by rw [lN_i]) ?_
              unfold ltStep at ih
              dsimp only at ih
              generalize ltX aa % m = q at hq ih ⊢
              generalize ltX aa = X at hx ih ⊢
              have eb := hX.by_ q (by omega)
              have tl : GL gX0_lots (rm (L + 18) 0 0) (XR o (nI (ltS n m t (y.2.2 23) sd N).2.2, sA y 23 (ltS n m t (y.2.2 23) sd N).1)) 0 0 109 [some (.ref 1), some (.int (nI N)), some (.int (nI sd)), some (.long (lN X)), none, some (.int (nI tk)), some (.int (nI k)), some (.int (nI q)), none, none] [.int (orI (avB W m q) n)] (mX o x') := by
                have hcl := cN_le (avB W m q) n
                refine gl_istore dX0_lots_109 rfl rfl ?_
                refine gl_iload dX0_lots_111 rfl ?_
                refine gl_if_eq (tgt := 166) dX0_lots_113 (by decide) (fun h113 => ?_) (fun h113 => ?_)
                · have z := (orI_ne0 hc7).mp h113
                  rw [if_neg z] at ih
                  refine gl_iinc (v := (nI (k + 1))) dX0_lots_166 rfl (nI_1 _) rfl rfl ?_
                  refine gl_goto (tgt := 56) dX0_lots_169 (by decide) ?_
                  refine gl_drop 7 (gl_drop 8 ?_)
                  exact ih x' hV'
                · have z : 0 < cN (avB W m q) n := by
                    rcases Nat.eq_zero_or_pos (cN (avB W m q) n) with w | w
                    · exact absurd ((orI_ne0 hc7).mpr (by omega)) h113
                    · exact w
                  rw [if_pos z] at ih
                  obtain ⟨e1, e2⟩ := av_fc z
                  have hl : X / 64 % cN (avB W m q) n < cN (fcB W m q) n := by rw [← e2]; exact Nat.mod_lt _ z
                  have eo : orI (avB W m q) n = orI (fcB W m q) n := orI_eq (fun c hc => by unfold avB; rw [e1]; rfl)
                  unfold ltC at ih
                  refine gl_lload_n dX0_lots_116 rfl ?_
                  refine gl_ldc2 (v := 64) q955 dX0_lots_117 ?_
                  refine gl_ldiv dX0_lots_120 (by decide) ?_
                  refine gl_top (w := .long (lN (X / 64))) (by rw [show (64 : Int64) = lN 64 from rfl, pk_lDiv (by omega) (by omega) (by omega)]) ?_
                  refine gl_iload dX0_lots_121 rfl ?_
                  refine gl_callS (j_bc L _ _) dX0_lots_123 q889 q890 q95 q891 rfl hJ11_bitCount rfl rfl (rmOk (by omega) rfl) ⟨by first | exact Nat.le_refl _ | exact Nat.zero_le _ | decide | (dsimp only [rm]; omega), by first | exact Nat.le_refl _ | exact Nat.zero_le _ | decide | (dsimp only [rm]; omega)⟩ (rt1 ?_)
                  rw [bc_n _ hc7, cntI_nI]
                  refine gl_i2l dX0_lots_126 ?_
                  rw [nI_l (by omega)]
                  refine gl_lrem dX0_lots_127 (by intro z0; have := (lN_eq (a := cN (avB W m q) n) (b := 0) (by omega) (by omega)).mp z0; omega) ?_
                  have hxd : X / 64 ≤ X := Nat.div_le_self _ _
                  refine gl_top (w := .long (lN (X / 64 % cN (avB W m q) n))) (by rw [lN_rem (by omega) z (by omega)]) ?_
                  refine gl_l2i dX0_lots_128 ?_
                  refine gl_top (w := .int (nI (X / 64 % cN (avB W m q) n))) (by rw [lN_i]) ?_
                  generalize X / 64 % cN (avB W m q) n = l at hl ih ⊢
                  obtain ⟨p1, p2⟩ := pick_ok (p := fcB W m q) (n := n) n l 0 (by omega) (by show 0 + l < _; omega)
                  have hpk := pick_bits (fcB W m q) hc7 hl
                  rw [eo]
                  have hfr : frC W m (pickF (fcB W m q) n l 0) = true := by
                    unfold fcB at p2
                    rw [Bool.and_eq_true] at p2
                    exact p2.1
                  generalize pickF (fcB W m q) n l 0 = c at p1 p2 hpk hfr ih
                  generalize orI (fcB W m q) n = v at hpk ⊢
                  refine gl_istore dX0_lots_129 rfl rfl ?_
                  have lp : ∀ (l : Nat) (v : Int32), l < 100 → ntzE (clrN l v) = nI c → GL gX0_lots (rm (L + 18) 0 0) (XR o (nI (ltS n m t (y.2.2 23) sd N).2.2, sA y 23 (ltS n m t (y.2.2 23) sd N).1)) 0 0 131 [some (.ref 1), some (.int (nI N)), some (.int (nI sd)), some (.long (lN X)), none, some (.int (nI tk)), some (.int (nI k)), some (.int (nI q)), some (.int v), some (.int (nI l))] [] (mX o x') := by
                    intro l
                    induction l with
                    | zero =>
                      intro v _ hv
                      refine gl_iload dX0_lots_131 rfl ?_
                      refine gl_if_le (tgt := 151) dX0_lots_133 (by decide) (fun _ => ?_) (fun h => absurd ((by decide)) h)
                      refine gl_aload_n dX0_lots_151 rfl ?_
                      refine gl_iload dX0_lots_152 rfl ?_
                      refine gl_iload dX0_lots_154 rfl ?_
                      refine gl_callS (j_ntz L _ _) dX0_lots_156 q956 q957 q95 q958 rfl hJ11_numberOfTrailingZeros rfl rfl (rmOk (by omega) rfl) ⟨by first | exact Nat.le_refl _ | exact Nat.zero_le _ | decide | (dsimp only [rm]; omega), by first | exact Nat.le_refl _ | exact Nat.zero_le _ | decide | (dsimp only [rm]; omega)⟩ (rt1 ?_)
                      rw [show ntzE v = nI c from hv]
                      refine gl_callV (x_takeTruly L hX hL (by omega) q c hq p1 hfr) dX0_lots_159 q739 q741 qs22 q74 q742 rfl hX0_takeTruly rfl (rfl : vwCl[0]? = some (RX0, TX0, 30)) rfl rfl (rmOk (by omega) rfl) ⟨by first | exact Nat.le_refl _ | exact Nat.zero_le _ | decide | (dsimp only [rm]; omega), by first | exact Nat.le_refl _ | exact Nat.zero_le _ | decide | (dsimp only [rm]; omega)⟩ (rt1 ?_)
                      refine gl_pop dX0_lots_162 rfl ?_
                      refine gl_iinc (v := (nI (tk + 1))) dX0_lots_163 rfl (nI_1 _) rfl rfl ?_
                      refine gl_iinc (v := (nI (k + 1))) dX0_lots_166 rfl (nI_1 _) rfl rfl ?_
                      refine gl_goto (tgt := 56) dX0_lots_169 (by decide) ?_
                      refine gl_drop 7 (gl_drop 8 (gl_drop 9 ?_))
                      exact ih (tkX x' (t + tk) q c) (show RV o τ (tkX x' (t + tk) q c) (sA y 23 (tkS W (t + tk) q c)) n m (t + (tk + 1)) from hV'.tk (by omega) hq p1 hfr)
                    | succ l ihl =>
                      intro v hl2 hv
                      refine gl_iload dX0_lots_131 rfl ?_
                      refine gl_if_le (tgt := 151) dX0_lots_133 (by decide) (fun h => absurd h (nI_nle (by omega) (by omega))) (fun _ => ?_)
                      refine gl_iload dX0_lots_136 rfl ?_
                      refine gl_iload dX0_lots_138 rfl ?_
                      refine gl_iconst (v := nI 1) dX0_lots_140 (by decide) ?_
                      refine gl_isub dX0_lots_141 ?_
                      refine gl_iand dX0_lots_142 ?_
                      refine gl_istore dX0_lots_143 rfl rfl ?_
                      refine gl_iinc dX0_lots_145 rfl rfl rfl rfl ?_
                      rw [nI_dec]
                      refine gl_goto (tgt := 131) dX0_lots_148 (by decide) ?_
                      exact ihl _ (by omega) hv
                  exact lp l v (by have := cN_le (fcB W m q) n; omega) hpk
              refine gl_istore dX0_lots_80 rfl rfl ?_
              refine gl_aload_n dX0_lots_82 rfl ?_
              refine gl_get (k := 12) dX0_lots_83 rfl (rfl : vwCl[0]? = some (RX0, TX0, 30)) in_X0 (by decide) q125 rfl ?_
              refine gl_iload dX0_lots_86 rfl ?_
              refine gl_iald (j := q) dX0_lots_88 rfl rfl (by omega) ?_
              refine gl_bipush (v := (-9)) dX0_lots_89 (by decide) ?_
              refine gl_icmp_ne (tgt := 108) dX0_lots_91 (by decide) (fun h91 => ?_) (fun h91 => ?_)
              · rw [eb] at h91
                refine gl_iconst (v := nI 0) dX0_lots_108 (by decide) ?_
                rw [← orI_0 (avB W m q) n (fun c hc => by unfold avB frQ; simp [h91])]
                exact tl
              · rw [eb] at h91
                refine gl_aload_n dX0_lots_94 rfl ?_
                refine gl_iload dX0_lots_95 rfl ?_
                refine gl_callV (x_fitSet L o x' hX hL q hq) dX0_lots_97 q727 q729 qs20 q74 q730 rfl hX0_fitSet rfl (rfl : vwCl[0]? = some (RX0, TX0, 30)) rfl rfl (rmOk (by omega) rfl) ⟨by first | exact Nat.le_refl _ | exact Nat.zero_le _ | decide | (dsimp only [rm]; omega), by first | exact Nat.le_refl _ | exact Nat.zero_le _ | decide | (dsimp only [rm]; omega)⟩ (rt1 ?_)
                refine gl_aload_n dX0_lots_100 rfl ?_
                refine gl_callV (x_freeCards L o x' hX hL) dX0_lots_101 q815 q817 qs26 q74 q818 rfl hX0_freeCards rfl (rfl : vwCl[0]? = some (RX0, TX0, 30)) rfl rfl (rmOk (by omega) rfl) ⟨by first | exact Nat.le_refl _ | exact Nat.zero_le _ | decide | (dsimp only [rm]; omega), by first | exact Nat.le_refl _ | exact Nat.zero_le _ | decide | (dsimp only [rm]; omega)⟩ (rt1 ?_)
                refine gl_iand dX0_lots_104 ?_
                refine gl_goto (tgt := 109) dX0_lots_105 (by decide) ?_
                rw [show fsI W n q &&& orI (frC W m) n = orI (avB W m q) n by unfold fsI; rw [orI_and _ _ (by omega)]; exact orI_eq (fun c hc => by unfold avB fcB frQ; simp [h91, Bool.and_comm])]
                exact tl
          exact loop N 0 (by omega) x hV
        · have htn : ¬ t + N ≤ 40 := fun z => h41 (nI_le z (by omega))
          rw [if_pos (by omega)]
          refine gl_bipush (v := (-2)) dX0_lots_44 (by decide) ?_
          exact gl_iret dX0_lots_46 rfl (XR.same hV) (hc := by first | exact Nat.zero_le _ | (dsimp only [rm]; omega)) (hs := by first | exact Nat.zero_le _ | (dsimp only [rm]; omega))
      · have hm : m = 0 := by
          rcases Nat.eq_zero_or_pos m with z | z
          · exact z
          · exact absurd h27 (nI_ne0 z (by omega))
        rw [if_pos hm]
        refine gl_bipush (v := (-4)) dX0_lots_30 (by decide) ?_
        exact gl_iret dX0_lots_32 rfl (XR.same hV) (hc := by first | exact Nat.zero_le _ | (dsimp only [rm]; omega)) (hs := by first | exact Nat.zero_le _ | (dsimp only [rm]; omega))
    · have z : inR seed 1 2147483646 = false := bI_fa h18
      rw [if_neg (by simp [z])]
      refine gl_iconst (v := (-1)) dX0_lots_21 (by decide) ?_
      exact gl_iret dX0_lots_22 rfl (XR.same hV) (hc := by first | exact Nat.zero_le _ | (dsimp only [rm]; omega)) (hs := by first | exact Nat.zero_le _ | (dsimp only [rm]; omega))
end XLt

