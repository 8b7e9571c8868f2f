/-! matchings gone through by the component: the fullest counted -/
set_option maxRecDepth 100000
def fX (x : XY) (A : Nat → Int32) (a : Int32) (W : Nat → Int32) : XY := (fun k => if k = 26 then a else x.1 k, x.2.1, fun k => if k = 14 then A else if k = 16 then W else x.2.2.1 k, x.2.2.2.1, x.2.2.2.2)
def VF (M : Int32) (n m : Nat) (ch : Nat → Int32) (sum : Int32) (S : Int32 × (Nat → Int32)) : Int32 × (Nat → Int32) := if sum = M then (S.1 + nI 1, wthF ch n S.2 m) else S
theorem it_id {σ : Type} {f : Nat → σ → σ} {s : σ} : ∀ {n : Nat}, (∀ c, c < n → f c s = s) → it f s n = s
  | 0, _ => rfl
  | n + 1, h => by
    unfold it
    rw [it_id (fun c hc => h c (by omega))]
    exact h n (by omega)
theorem wk_out {may : Nat → Nat → Bool} {w : Nat → Int32} {n m Mx : Nat} (hM : Mx < 100) : ∀ (r q : Nat) (used : Nat → Bool) (ch : Nat → Int32) (k : Nat) (S : Int32 × (Nat → Int32)), k + r < 100 → (Mx < k ∨ k + r < Mx) → wk may (wtI w false) n (VF (nI Mx) n m) r q used ch (nI k) S = S := by
  intro r
  induction r with
  | zero =>
    intro q used ch k S h1 h2
    show (if nI k = nI Mx then _ else S) = S
    rw [if_neg (fun z => by have := (nI_eq (by omega) (by omega)).mp z; omega)]
  | succ r ih =>
    intro q used ch k S h1 h2
    rw [wk_s]
    rw [it_id (fun c hc => by
      unfold stp
      split
      · rw [show wtI w false q = nI 1 from rfl, nI_add]
        exact ih (q + 1) _ _ (k + 1) S (by omega) (by omega)
      · rfl)]
    exact ih (q + 1) _ _ k S (by omega) (by omega)
section XFo
variable (L : Nat) {o : OX} {x : XY} {τ : Nat → Nat} {w : Nat → Int32} {n m t : Nat}
def fPost (o : OX) (x : XY) (q : Nat) (A : Nat → Int32) (S : Int32 × (Nat → Int32)) : Option Value → Mem → Prop := fun v μ => v = none ∧ ∃ A', (∀ j, j < q → A' j = A j) ∧ μ = mX o (fX x A' S.1 S.2)
theorem ch_up {ch : Nat → Int32} {q n c : Nat} (hc : c ≤ n) (h : ∀ j, j < q → ∃ c, c ≤ n ∧ ch j = nI c) : ∀ j, j < q + 1 → ∃ d, d ≤ n ∧ upd ch q (nI c) j = nI d := up_rng hc h
theorem x_fullOn (hX : RL o τ x w n m t) (hL : Lb w n m t) {Mx : Nat} (hM : Mx ≤ 7) : ∀ (r q : Nat), q + r = m → ∀ (used : Nat → Bool) (ch : Nat → Int32) (k mo : Nat) (A : Nat → Int32) (S : Int32 × (Nat → Int32)), k + mo = Mx → (∀ j, j < q → A j = pr n (ch j)) → (∀ j, j < q → ∃ c, c ≤ n ∧ ch j = nI c) → Ct yX0_fullOn gX0_fullOn (L + 20 + r) 0 0 [.ref 1, .int (nI q), .int (orI (lfB w m used) n), .int (nI mo)] (mX o (fX x A S.1 S.2)) (fPost o x q A (wk (mayB w m) (wtI w false) n (VF (nI Mx) n m) r q used ch (nI k) S)) := by
  have h7 := hL.c7
  have h7q := hL.q7
  intro r
  induction r with
  | zero =>
    intro q hq used ch k mo A S hk hA hch
    have eq : q = m := by omega
    subst eq
    refine Ct.of rfl rfl rfl rfl rfl ?_
    show GL _ _ (fPost o x q A (if nI k = nI Mx then (S.1 + nI 1, wthF ch n S.2 q) else S)) _ _ _ _ _ _
    refine gl_iload_n dX0_fullOn_0 rfl ?_
    refine gl_aload_n dX0_fullOn_1 rfl ?_
    refine gl_get (k := 9) dX0_fullOn_2 rfl (rfl : vwCl[0]? = some (RX0, TX0, 30)) in_X0 (by decide) q122 rfl ?_
    refine gl_top (w := .int (nI q)) (congrArg Value.int hX.askMany) ?_
    refine gl_icmp_ne (tgt := 75) dX0_fullOn_5 (by decide) (fun h => absurd (rfl) h) (fun _ => ?_)
    refine gl_iload_n dX0_fullOn_8 rfl ?_
    refine gl_if_ne (tgt := 74) dX0_fullOn_9 (by decide) (fun h9 => ?_) (fun h9 => ?_)
    · rw [if_neg (fun z => h9 (by have := (nI_eq (by omega) (by omega)).mp z; rw [show mo = 0 by omega]; rfl))]
      exact gl_vret dX0_fullOn_74 rfl ⟨rfl, A, fun _ _ => rfl, rfl⟩ (hc := by first | exact Nat.zero_le _ | (dsimp only [rm]; omega)) (hs := by first | exact Nat.zero_le _ | (dsimp only [rm]; omega))
    · have hmo : mo = 0 := by
        rcases Nat.eq_zero_or_pos mo with z | z
        · exact z
        · exact absurd h9 (nI_ne0 z (by omega))
      rw [if_pos (by rw [show k = Mx by omega])]
      refine gl_aload_n dX0_fullOn_12 rfl ?_
      refine gl_dup dX0_fullOn_13 rfl ?_
      refine gl_get (k := 26) dX0_fullOn_14 rfl (rfl : vwCl[0]? = some (RX0, TX0, 30)) in_X0 (by decide) q139 rfl ?_
      refine gl_iconst (v := nI 1) dX0_fullOn_17 (by decide) ?_
      refine gl_iadd dX0_fullOn_18 ?_
      refine gl_put (k := 26) dX0_fullOn_19 rfl (rfl : vwCl[0]? = some (RX0, TX0, 30)) in_X0 tyX0 tyX0_ok nmX0 (by decide) rfl q139 (fun _ _ => ⟨rfl, rfl⟩) rfl ?_
      refine gl_iconst (v := nI 0) dX0_fullOn_22 (by decide) ?_
      refine gl_istore dX0_fullOn_23 rfl rfl ?_
      refine gl_mem (μ1 := mX o (fX x A (S.1 + nI 1) S.2)) rfl ?_
      refine gl_loop (fun i => [some (.ref 1), some (.int (nI q)), some (.int (orI (lfB w q used) n)), some (.int (nI mo)), some (.int (nI i)), none]) (fun i => mX o (fX x A (S.1 + nI 1) (wthF ch n S.2 i))) q ?_ ?_
      · intro i hi ih
        obtain ⟨c, hc, ec⟩ := hch i hi
        have eA := hA i hi
        have es : wthF ch n S.2 (i + 1) = if ch i < nI n then upd (wthF ch n S.2 i) (7 * i + ix (ch i)) (wthF ch n S.2 i (7 * i + ix (ch i)) + nI 1) else wthF ch n S.2 i := rfl
        refine gl_iload dX0_fullOn_25 rfl ?_
        refine gl_aload_n dX0_fullOn_27 rfl ?_
        refine gl_get (k := 9) dX0_fullOn_28 rfl (rfl : vwCl[0]? = some (RX0, TX0, 30)) in_X0 (by decide) q122 rfl ?_
        refine gl_icmp_ge (tgt := 74) dX0_fullOn_31 (by decide) (fun h => absurd h ((by show ¬ x.1 9 ≤ nI i; rw [hX.askMany]; exact nI_ge hi (by omega)))) (fun _ => ?_)
        refine gl_aload_n dX0_fullOn_34 rfl ?_
        refine gl_get (k := 23) dX0_fullOn_35 rfl (rfl : vwCl[0]? = some (RX0, TX0, 30)) in_X0 (by decide) q136 rfl ?_
        refine gl_iload dX0_fullOn_38 rfl ?_
        refine gl_iald (j := i) dX0_fullOn_40 rfl rfl (by omega) ?_
        refine gl_top (w := .int (pr n (ch i))) (congrArg Value.int eA) ?_
        refine gl_bipush (v := (-9)) dX0_fullOn_41 (by decide) ?_
        by_cases e : c = n
        · have ep : pr n (ch i) = -9 := by unfold pr; rw [ec, e, if_pos rfl]
          rw [if_neg (by rw [ec, e]; exact nI_nlt (Nat.le_refl _) (by omega))] at es
          rw [ep]
          refine gl_icmp_eq (tgt := 68) dX0_fullOn_43 (by decide) (fun _ => ?_) (fun h => absurd (rfl) h)
          refine gl_iinc (v := (nI (i + 1))) dX0_fullOn_68 rfl (nI_1 _) rfl rfl ?_
          refine gl_goto (tgt := 25) dX0_fullOn_71 (by decide) ?_
          rw [es] at ih
          exact ih
        · have ep : pr n (ch i) = nI c := by unfold pr; rw [ec, if_neg (fun z => e ((nI_eq (by omega) (by omega)).mp z))]
          rw [if_pos (by rw [ec]; exact nI_lt (by omega) (by omega)), ec, ix_nI (show c < 100 by omega)] at es
          rw [ep]
          refine gl_icmp_eq (tgt := 68) dX0_fullOn_43 (by decide) (fun h => absurd h (nI_ne9 (by omega))) (fun _ => ?_)
          refine gl_aload_n dX0_fullOn_46 rfl ?_
          refine gl_get (k := 27) dX0_fullOn_47 rfl (rfl : vwCl[0]? = some (RX0, TX0, 30)) in_X0 (by decide) q140 rfl ?_
          refine gl_bipush (v := nI 7) dX0_fullOn_50 (by decide) ?_
          refine gl_iload dX0_fullOn_52 rfl ?_
          refine gl_imul dX0_fullOn_54 ?_
          refine gl_aload_n dX0_fullOn_55 rfl ?_
          refine gl_get (k := 23) dX0_fullOn_56 rfl (rfl : vwCl[0]? = some (RX0, TX0, 30)) in_X0 (by decide) q136 rfl ?_
          refine gl_iload dX0_fullOn_59 rfl ?_
          refine gl_iald (j := i) dX0_fullOn_61 rfl rfl (by omega) ?_
          refine gl_top (w := .int (nI c)) (congrArg Value.int (eA.trans ep)) ?_
          refine gl_iadd dX0_fullOn_62 ?_
          refine gl_dup2 dX0_fullOn_63 rfl rfl ?_
          refine gl_iald (j := (7*i+c)) dX0_fullOn_64 rfl (by simp only [nI_add, nI_mul]) (by omega) ?_
          refine gl_iconst (v := nI 1) dX0_fullOn_65 (by decide) ?_
          refine gl_iadd dX0_fullOn_66 ?_
          refine gl_iast (j := (7*i+c)) dX0_fullOn_67 rfl (by simp only [nI_add, nI_mul]) (by omega) ?_
          refine gl_iinc (v := (nI (i + 1))) dX0_fullOn_68 rfl (nI_1 _) rfl rfl ?_
          refine gl_goto (tgt := 25) dX0_fullOn_71 (by decide) ?_
          rw [es] at ih
          exact ih
      · refine gl_iload dX0_fullOn_25 rfl ?_
        refine gl_aload_n dX0_fullOn_27 rfl ?_
        refine gl_get (k := 9) dX0_fullOn_28 rfl (rfl : vwCl[0]? = some (RX0, TX0, 30)) in_X0 (by decide) q122 rfl ?_
        refine gl_icmp_ge (tgt := 74) dX0_fullOn_31 (by decide) (fun _ => ?_) (fun h => absurd ((by show x.1 9 ≤ nI q; rw [hX.askMany]; exact nI_le (Nat.le_refl _) (by omega))) h)
        exact gl_vret dX0_fullOn_74 rfl ⟨rfl, A, fun _ _ => rfl, rfl⟩ (hc := by first | exact Nat.zero_le _ | (dsimp only [rm]; omega)) (hs := by first | exact Nat.zero_le _ | (dsimp only [rm]; omega))
  | succ r ih =>
    intro q hq used ch k mo A S hk hA hch
    refine Ct.of rfl rfl rfl rfl rfl ?_
    refine gl_iload_n dX0_fullOn_0 rfl ?_
    refine gl_aload_n dX0_fullOn_1 rfl ?_
    refine gl_get (k := 9) dX0_fullOn_2 rfl (rfl : vwCl[0]? = some (RX0, TX0, 30)) in_X0 (by decide) q122 rfl ?_
    refine gl_top (w := .int (nI m)) (congrArg Value.int hX.askMany) ?_
    refine gl_icmp_ne (tgt := 75) dX0_fullOn_5 (by decide) (fun _ => ?_) (fun h => absurd h ((fun z => absurd ((nI_eq (by omega) (by omega)).mp z) (by omega))))
    refine gl_iload_n dX0_fullOn_75 rfl ?_
    refine gl_aload_n dX0_fullOn_76 rfl ?_
    refine gl_get (k := 9) dX0_fullOn_77 rfl (rfl : vwCl[0]? = some (RX0, TX0, 30)) in_X0 (by decide) q122 rfl ?_
    refine gl_top (w := .int (nI m)) (congrArg Value.int hX.askMany) ?_
    refine gl_iload_n dX0_fullOn_80 rfl ?_
    refine gl_isub dX0_fullOn_81 ?_
    rw [nI_sub (show q ≤ m by omega), show m - q = r + 1 by omega]
    refine gl_icmp_le (tgt := 86) dX0_fullOn_82 (by decide) (fun h82 => ?_) (fun h82 => ?_)
    · have hmr : mo ≤ r + 1 := (nI_leI (by omega) (by omega)).mp h82
      rw [wk_s]
      generalize hst : stp (mayB w m) (wtI w false) n (VF (nI Mx) n m) r q used ch (nI k) = st
      have hall : ∀ (sB : Nat → Bool), (∀ c, c < n → sB c = (decide (0 < mo) && (mayB w m q c && !used c))) → GL gX0_fullOn (rm (L + 20 + (r + 1)) 0 0) (fPost o x q A (wk (mayB w m) (wtI w false) n (VF (nI Mx) n m) r (q + 1) used (upd ch q (nI n)) (nI k) (it st S n))) 0 0 100 [some (.ref 1), some (.int (nI q)), some (.int (orI (lfB w m used) n)), some (.int (nI mo)), none, none] [.int (orI sB n)] (mX o (fX x A S.1 S.2)) := by
        intro sB hsB
        refine gl_istore dX0_fullOn_100 rfl rfl ?_
        refine gl_iconst (v := nI 0) dX0_fullOn_102 (by decide) ?_
        refine gl_istore dX0_fullOn_103 rfl rfl ?_
        have loop : ∀ (d i : Nat), i + d = n → ∀ (A' : Nat → Int32), (∀ j, j < q → A' j = A j) → GL gX0_fullOn (rm (L + 20 + (r + 1)) 0 0) (fPost o x q A (wk (mayB w m) (wtI w false) n (VF (nI Mx) n m) r (q + 1) used (upd ch q (nI n)) (nI k) (it st S n))) 0 0 105 [some (.ref 1), some (.int (nI q)), some (.int (orI (lfB w m used) n)), some (.int (nI mo)), some (.int (orI sB n)), some (.int (nI i))] [] (mX o (fX x A' (it st S i).1 (it st S i).2)) := by
          intro d
          induction d with
          | zero =>
            intro i hi A' hA'
            have ei : i = n := by omega
            subst ei
            refine gl_iload dX0_fullOn_105 rfl ?_
            refine gl_aload_n dX0_fullOn_107 rfl ?_
            refine gl_get (k := 7) dX0_fullOn_108 rfl (rfl : vwCl[0]? = some (RX0, TX0, 30)) in_X0 (by decide) q119 rfl ?_
            refine gl_icmp_ge (tgt := 156) dX0_fullOn_111 (by decide) (fun _ => ?_) (fun h => absurd ((by show x.1 7 ≤ nI i; rw [hX.many]; exact nI_le (Nat.le_refl _) (by omega))) h)
            refine gl_aload_n dX0_fullOn_156 rfl ?_
            refine gl_get (k := 23) dX0_fullOn_157 rfl (rfl : vwCl[0]? = some (RX0, TX0, 30)) in_X0 (by decide) q136 rfl ?_
            refine gl_iload_n dX0_fullOn_160 rfl ?_
            refine gl_bipush (v := (-9)) dX0_fullOn_161 (by decide) ?_
            refine gl_iast (j := q) dX0_fullOn_163 rfl rfl (by omega) ?_
            refine gl_mem (μ1 := mX o (fX x (upd A' q (-9)) (it st S i).1 (it st S i).2)) rfl ?_
            refine gl_aload_n dX0_fullOn_164 rfl ?_
            refine gl_iload_n dX0_fullOn_165 rfl ?_
            refine gl_iconst (v := nI 1) dX0_fullOn_166 (by decide) ?_
            refine gl_iadd dX0_fullOn_167 ?_
            rw [nI_add]
            refine gl_iload_n dX0_fullOn_168 rfl ?_
            refine gl_iload_n dX0_fullOn_169 rfl ?_
            refine gl_callV (ih (q + 1) (by omega) used (upd ch q (nI i)) k mo (upd A' q (-9)) (it st S i) hk (pr_none hA' hA) (ch_up (Nat.le_refl _) hch)) dX0_fullOn_170 q842 q844 qs30 q74 q845 rfl hX0_fullOn rfl (rfl : vwCl[0]? = some (RX0, TX0, 30)) rfl rfl (rmOk (by omega) rfl) ⟨by first | exact Nat.le_refl _ | exact Nat.zero_le _ | decide | (dsimp only [rm]; omega), by first | exact Nat.le_refl _ | exact Nat.zero_le _ | decide | (dsimp only [rm]; omega)⟩ ?_
            rintro _ _ ⟨rfl, A2, h1, rfl⟩
            exact gl_vret dX0_fullOn_173 rfl ⟨rfl, A2, fun j hj => by rw [h1 j (by omega), pk_un (by omega)]; exact hA' j hj, rfl⟩ (hc := by first | exact Nat.zero_le _ | (dsimp only [rm]; omega)) (hs := by first | exact Nat.zero_le _ | (dsimp only [rm]; omega))
          | succ d ihd =>
            intro i hi A' hA'
            have hin : i < n := by omega
            have es : it st S (i + 1) = if mayB w m q i && !used i then wk (mayB w m) (wtI w false) n (VF (nI Mx) n m) r (q + 1) (upB used i true) (upd ch q (nI i)) (nI k + wtI w false q) (it st S i) else it st S i := by rw [← hst]; rfl
            refine gl_iload dX0_fullOn_105 rfl ?_
            refine gl_aload_n dX0_fullOn_107 rfl ?_
            refine gl_get (k := 7) dX0_fullOn_108 rfl (rfl : vwCl[0]? = some (RX0, TX0, 30)) in_X0 (by decide) q119 rfl ?_
            refine gl_icmp_ge (tgt := 156) dX0_fullOn_111 (by decide) (fun h => absurd h ((by show ¬ x.1 7 ≤ nI i; rw [hX.many]; exact nI_ge hin (by omega)))) (fun _ => ?_)
            refine gl_iload dX0_fullOn_114 rfl ?_
            refine gl_iload dX0_fullOn_116 rfl ?_
            refine gl_callS (x_has L _ _ i (by omega)) dX0_fullOn_118 q827 q828 q74 q829 rfl hX0_has rfl rfl (rmOk (by omega) rfl) ⟨by first | exact Nat.le_refl _ | exact Nat.zero_le _ | decide | (dsimp only [rm]; omega), by first | exact Nat.le_refl _ | exact Nat.zero_le _ | decide | (dsimp only [rm]; omega)⟩ (rt1 ?_)
            rw [bit_orI _ _ _ (by omega) (by omega), decide_eq_true hin, Bool.true_and, hsB i hin]
            refine gl_if_eq (tgt := 150) dX0_fullOn_121 (by decide) (fun h121 => ?_) (fun h121 => ?_)
            · have hz := bI_fa h121
              have es' : it st S (i + 1) = it st S i := by
                rw [es]
                split
                · rename_i hb
                  have hmo : mo = 0 := by
                    rw [hb, Bool.and_true] at hz
                    simpa using hz
                  rw [show wtI w false q = nI 1 from rfl, nI_add]
                  exact wk_out (by omega) r (q + 1) _ _ (k + 1) _ (by omega) (by omega)
                · rfl
              refine gl_iinc (v := (nI (i + 1))) dX0_fullOn_150 rfl (nI_1 _) rfl rfl ?_
              refine gl_goto (tgt := 105) dX0_fullOn_153 (by decide) ?_
              rw [← es']
              exact ihd (i + 1) (by omega) A' hA'
            · have hz := bI_tr h121
              rw [Bool.and_eq_true, decide_eq_true_eq] at hz
              rw [hz.2, if_pos rfl, show wtI w false q = nI 1 from rfl, nI_add] at es
              refine gl_aload_n dX0_fullOn_124 rfl ?_
              refine gl_get (k := 23) dX0_fullOn_125 rfl (rfl : vwCl[0]? = some (RX0, TX0, 30)) in_X0 (by decide) q136 rfl ?_
              refine gl_iload_n dX0_fullOn_128 rfl ?_
              refine gl_iload dX0_fullOn_129 rfl ?_
              refine gl_iast (j := q) dX0_fullOn_131 rfl rfl (by omega) ?_
              refine gl_mem (μ1 := mX o (fX x (upd A' q (nI i)) (it st S i).1 (it st S i).2)) rfl ?_
              refine gl_aload_n dX0_fullOn_132 rfl ?_
              refine gl_iload_n dX0_fullOn_133 rfl ?_
              refine gl_iconst (v := nI 1) dX0_fullOn_134 (by decide) ?_
              refine gl_iadd dX0_fullOn_135 ?_
              rw [nI_add]
              refine gl_iload_n dX0_fullOn_136 rfl ?_
              refine gl_iconst (v := nI 1) dX0_fullOn_137 (by decide) ?_
              refine gl_iload dX0_fullOn_138 rfl ?_
              refine gl_ishl dX0_fullOn_140 ?_
              refine gl_iconst (v := (-1)) dX0_fullOn_141 (by decide) ?_
              refine gl_ixor dX0_fullOn_142 ?_
              refine gl_iand dX0_fullOn_143 ?_
              rw [lf_del w m used (by omega) hin]
              refine gl_iload_n dX0_fullOn_144 rfl ?_
              refine gl_iconst (v := nI 1) dX0_fullOn_145 (by decide) ?_
              refine gl_isub dX0_fullOn_146 ?_
              rw [nI_sub (show 1 ≤ mo by omega)]
              refine gl_callV (ih (q + 1) (by omega) (upB used i true) (upd ch q (nI i)) (k + 1) (mo - 1) (upd A' q (nI i)) (it st S i) (by omega) (pr_card hin h7 hA' hA) (ch_up (by omega) hch)) dX0_fullOn_147 q842 q844 qs30 q74 q845 rfl hX0_fullOn rfl (rfl : vwCl[0]? = some (RX0, TX0, 30)) rfl rfl (rmOk (by omega) rfl) ⟨by first | exact Nat.le_refl _ | exact Nat.zero_le _ | decide | (dsimp only [rm]; omega), by first | exact Nat.le_refl _ | exact Nat.zero_le _ | decide | (dsimp only [rm]; omega)⟩ ?_
              rintro _ _ ⟨rfl, A2, h1, rfl⟩
              rw [← es]
              refine gl_iinc (v := (nI (i + 1))) dX0_fullOn_150 rfl (nI_1 _) rfl rfl ?_
              refine gl_goto (tgt := 105) dX0_fullOn_153 (by decide) ?_
              exact ihd (i + 1) (by omega) A2 (fun j hj => by rw [h1 j (by omega), pk_un (by omega)]; exact hA' j hj)
        exact loop n 0 (by omega) A (fun _ _ => rfl)
      refine gl_iload_n dX0_fullOn_86 rfl ?_
      refine gl_if_ne (tgt := 94) dX0_fullOn_87 (by decide) (fun h87 => ?_) (fun h87 => ?_)
      · have hmo : 0 < mo := by
          rcases Nat.eq_zero_or_pos mo with z | z
          · rw [z] at h87; exact absurd rfl h87
          · exact z
        refine gl_aload_n dX0_fullOn_94 rfl ?_
        refine gl_iload_n dX0_fullOn_95 rfl ?_
        refine gl_iload_n dX0_fullOn_96 rfl ?_
        refine gl_callV (x_mayAnswer L o (fX x A S.1 S.2) (show RL o τ (fX x A S.1 S.2) w n m t from hX) hL q (by omega) (lfB w m used)) dX0_fullOn_97 q823 q825 qs28 q74 q826 rfl hX0_mayAnswer rfl (rfl : vwCl[0]? = some (RX0, TX0, 30)) rfl rfl (rmOk (by omega) rfl) ⟨by first | exact Nat.le_refl _ | exact Nat.zero_le _ | decide | (dsimp only [rm]; omega), by first | exact Nat.le_refl _ | exact Nat.zero_le _ | decide | (dsimp only [rm]; omega)⟩ (rt1 ?_)
        exact hall _ (fun c hc => by rw [myB_may, decide_eq_true hmo, Bool.true_and])
      · have hmo : mo = 0 := by
          rcases Nat.eq_zero_or_pos mo with z | z
          · exact z
          · exact absurd h87 (nI_ne0 z (by omega))
        refine gl_iconst (v := nI 0) dX0_fullOn_90 (by decide) ?_
        refine gl_goto (tgt := 100) dX0_fullOn_91 (by decide) ?_
        rw [← orI_0 (fun _ => false) n (fun _ _ => rfl)]
        exact hall (fun _ => false) (fun c hc => by rw [hmo]; rfl)
    · have hmr : ¬ mo ≤ r + 1 := fun z => h82 (nI_le z (by omega))
      rw [wk_out (by omega) (r + 1) q used ch k S (by omega) (by omega)]
      exact gl_vret dX0_fullOn_85 rfl ⟨rfl, A, fun _ _ => rfl, rfl⟩ (hc := by first | exact Nat.zero_le _ | (dsimp only [rm]; omega)) (hs := by first | exact Nat.zero_le _ | (dsimp only [rm]; omega))
end XFo

