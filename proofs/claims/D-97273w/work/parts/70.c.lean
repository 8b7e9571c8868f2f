/-! matchings gone through by the component: the best -/
set_option maxRecDepth 100000
def pr (n : Nat) (v : Int32) : Int32 := if v = nI n then -9 else v
def bX (x : XY) (A : Nat → Int32) (bw : Int32) (B : Nat → Int32) : XY := (fun k => if k = 25 then bw else x.1 k, x.2.1, fun k => if k = 14 then A else if k = 15 then B else x.2.2.1 k, x.2.2.2.1, x.2.2.2.2)
def VB (n : Nat) (ch : Nat → Int32) (sum : Int32) (S : Int32 × (Nat → Int32)) : Int32 × (Nat → Int32) := if S.1 < sum then (sum, fun j => pr n (ch j)) else S
def lfB (w : Nat → Int32) (m : Nat) (used : Nat → Bool) : Nat → Bool := fun c => frC w m c && !used c
theorem myB_may (w : Nat → Int32) (m q : Nat) (used : Nat → Bool) (c : Nat) : myB w q (lfB w m used) c = (mayB w m q c && !used c) := by
  unfold myB lfB mayB
  cases frQ w q <;> cases frC w m c <;> cases fitB w q c <;> cases okT w q c <;> cases used c <;> rfl
theorem lf_del (w : Nat → Int32) (m : Nat) (used : Nat → Bool) {n c : Nat} (hn : n ≤ 31) (hc : c < n) : orI (lfB w m used) n &&& ((nI 1 <<< (nI c &&& 31)) ^^^ (-1)) = orI (lfB w m (upB used c true)) n := by
  rw [orI_del _ hn hc]
  refine orI_eq (fun j hj => ?_)
  unfold upB lfB
  by_cases e : j = c
  · simp [e]
  · simp [e]
theorem pr_none {A A' ch : Nat → Int32} {n q : Nat} (hA' : ∀ j, j < q → A' j = A j) (hA : ∀ j, j < q → A j = pr n (ch j)) : ∀ j, j < q + 1 → upd A' q (-9) j = pr n (upd ch q (nI n) j) := by
  intro j hj
  by_cases e : j = q
  · rw [e, pk_us, pk_us]
    unfold pr
    rw [if_pos rfl]
  · rw [pk_un e, pk_un e, hA' j (by omega)]
    exact hA j (by omega)
theorem pr_card {A A' ch : Nat → Int32} {n q k : Nat} (hk : k < n) (hn : n ≤ 7) (hA' : ∀ j, j < q → A' j = A j) (hA : ∀ j, j < q → A j = pr n (ch j)) : ∀ j, j < q + 1 → upd A' q (nI k) j = pr n (upd ch q (nI k) j) := by
  intro j hj
  by_cases e : j = q
  · rw [e, pk_us, pk_us]
    unfold pr
    rw [if_neg (fun z => absurd ((nI_eq (by omega) (by omega)).mp z) (by omega))]
  · rw [pk_un e, pk_un e, hA' j (by omega)]
    exact hA j (by omega)
section XBo
variable (L : Nat) {o : OX} {x : XY} {τ : Nat → Nat} {w : Nat → Int32} {n m t : Nat}
def bPost (o : OX) (x : XY) (m q : Nat) (A : Nat → Int32) (S : Int32 × (Nat → Int32)) : Option Value → Mem → Prop := fun v μ => v = none ∧ ∃ A' B', (∀ j, j < q → A' j = A j) ∧ (∀ j, j < m → B' j = S.2 j) ∧ μ = mX o (bX x A' S.1 B')
theorem x_bestOn (hX : RL o τ x w n m t) (hL : Lb w n m t) (b : Bool) : ∀ (r q : Nat), q + r = m → ∀ (used : Nat → Bool) (ch : Nat → Int32) (sum : Int32) (A B : Nat → Int32) (S : Int32 × (Nat → Int32)), (∀ j, j < q → A j = pr n (ch j)) → (∀ j, j < m → B j = S.2 j) → Ct yX0_bestOn gX0_bestOn (L + 20 + r) 0 0 [.ref 1, .int (nI q), .int (orI (lfB w m used) n), .int sum, .int (bI b)] (mX o (bX x A S.1 B)) (bPost o x m q A (wk (mayB w m) (wtI w b) n (VB n) r q used ch sum S)) := by
  have h7 := hL.c7
  have h7q := hL.q7
  intro r
  induction r with
  | zero =>
    intro q hq used ch sum A B S hA hB
    have eq : q = m := by omega
    subst eq
    refine Ct.of rfl rfl rfl rfl rfl ?_
    refine gl_iload_n dX0_bestOn_0 rfl ?_
    refine gl_aload_n dX0_bestOn_1 rfl ?_
    refine gl_get (k := 9) dX0_bestOn_2 rfl (rfl : vwCl[0]? = some (RX0, TX0, 30)) in_X0 (by decide) q122 rfl ?_
    refine gl_top (w := .int (nI q)) (congrArg Value.int hX.askMany) ?_
    refine gl_icmp_ne (tgt := 37) dX0_bestOn_5 (by decide) (fun h => absurd (rfl) h) (fun _ => ?_)
    refine gl_iload_n dX0_bestOn_8 rfl ?_
    refine gl_aload_n dX0_bestOn_9 rfl ?_
    refine gl_get (k := 25) dX0_bestOn_10 rfl (rfl : vwCl[0]? = some (RX0, TX0, 30)) in_X0 (by decide) q138 rfl ?_
    refine gl_icmp_le (tgt := 36) dX0_bestOn_13 (by decide) (fun h13 => ?_) (fun h13 => ?_)
    · have hn : ¬ S.1 < sum := k2_nlt h13
      exact gl_vret dX0_bestOn_36 rfl ⟨rfl, A, B, fun _ _ => rfl, fun j hj => by show B j = (if S.1 < sum then _ else S).2 j; rw [if_neg hn]; exact hB j hj, by show _ = mX o (bX x A (if S.1 < sum then _ else S).1 B); rw [if_neg hn]⟩ (hc := by first | exact Nat.zero_le _ | (dsimp only [rm]; omega)) (hs := by first | exact Nat.zero_le _ | (dsimp only [rm]; omega))
    · have hn : S.1 < sum := k2_lt h13
      refine gl_aload_n dX0_bestOn_16 rfl ?_
      refine gl_iload_n dX0_bestOn_17 rfl ?_
      refine gl_put (k := 25) dX0_bestOn_18 rfl (rfl : vwCl[0]? = some (RX0, TX0, 30)) in_X0 tyX0 tyX0_ok nmX0 (by decide) rfl q138 (fun _ _ => ⟨rfl, rfl⟩) rfl ?_
      refine gl_aload_n dX0_bestOn_21 rfl ?_
      refine gl_get (k := 23) dX0_bestOn_22 rfl (rfl : vwCl[0]? = some (RX0, TX0, 30)) in_X0 (by decide) q136 rfl ?_
      refine gl_iconst (v := nI 0) dX0_bestOn_25 (by decide) ?_
      refine gl_aload_n dX0_bestOn_26 rfl ?_
      refine gl_get (k := 24) dX0_bestOn_27 rfl (rfl : vwCl[0]? = some (RX0, TX0, 30)) in_X0 (by decide) q137 rfl ?_
      refine gl_iconst (v := nI 0) dX0_bestOn_30 (by decide) ?_
      refine gl_bipush (v := nI 7) dX0_bestOn_31 (by decide) ?_
      refine gl_mem (μ1 := mX o (bX x A sum B)) rfl ?_
      refine gl_copy (n0 := 14) (n1 := 15) (sp := 0) (dp := 0) (k := 7) dX0_bestOn_33 q371 rfl rfl rfl rfl rfl (by omega) (by omega) (by omega) (by omega) rfl (copyR (by omega)) ?_
      refine gl_mem (μ1 := mX o (bX x A sum (va_cpy A B 0 0 7))) rfl ?_
      exact gl_vret dX0_bestOn_36 rfl ⟨rfl, A, va_cpy A B 0 0 7, fun _ _ => rfl, fun j hj => by show va_cpy A B 0 0 7 j = (if S.1 < sum then (sum, fun j => pr n (ch j)) else S).2 j; rw [if_pos hn, pk_cpy_in (by omega) (by omega), Nat.zero_add, Nat.sub_zero]; exact hA j hj, by show _ = mX o (bX x A (if S.1 < sum then (sum, fun j => pr n (ch j)) else S).1 _); rw [if_pos hn]⟩ (hc := by first | exact Nat.zero_le _ | (dsimp only [rm]; omega)) (hs := by first | exact Nat.zero_le _ | (dsimp only [rm]; omega))
  | succ r ih =>
    intro q hq used ch sum A B S hA hB
    refine Ct.of rfl rfl rfl rfl rfl ?_
    rw [wk_s]
    refine gl_iload_n dX0_bestOn_0 rfl ?_
    refine gl_aload_n dX0_bestOn_1 rfl ?_
    refine gl_get (k := 9) dX0_bestOn_2 rfl (rfl : vwCl[0]? = some (RX0, TX0, 30)) in_X0 (by decide) q122 rfl ?_
    refine gl_top (w := .int (nI m)) (congrArg Value.int hX.askMany) ?_
    refine gl_icmp_ne (tgt := 37) dX0_bestOn_5 (by decide) (fun _ => ?_) (fun h => absurd h ((fun z => absurd ((nI_eq (by omega) (by omega)).mp z) (by omega))))
    refine gl_aload_n dX0_bestOn_37 rfl ?_
    refine gl_iload_n dX0_bestOn_38 rfl ?_
    refine gl_iload_n dX0_bestOn_39 rfl ?_
    refine gl_callV (x_mayAnswer L o (bX x A S.1 B) (show RL o τ (bX x A S.1 B) w n m t from hX) hL q (by omega) (lfB w m used)) dX0_bestOn_40 q823 q825 qs28 q74 q826 rfl hX0_mayAnswer rfl (rfl : vwCl[0]? = some (RX0, TX0, 30)) rfl rfl (rmOk (by omega) rfl) ⟨by first | exact Nat.le_refl _ | exact Nat.zero_le _ | decide | (dsimp only [rm]; omega), by first | exact Nat.le_refl _ | exact Nat.zero_le _ | decide | (dsimp only [rm]; omega)⟩ (rt1 ?_)
    refine gl_istore dX0_bestOn_43 rfl rfl ?_
    refine gl_iconst (v := nI 0) dX0_bestOn_45 (by decide) ?_
    refine gl_istore dX0_bestOn_46 rfl rfl ?_
    generalize hst : stp (mayB w m) (wtI w b) n (VB n) r q used ch sum = st
    have loop : ∀ (d k : Nat), k + d = n → ∀ (A' B' : Nat → Int32), (∀ j, j < q → A' j = A j) → (∀ j, j < m → B' j = (it st S k).2 j) → GL gX0_bestOn (rm (L + 20 + (r + 1)) 0 0) (bPost o x m q A (wk (mayB w m) (wtI w b) n (VB n) r (q + 1) used (upd ch q (nI n)) sum (it st S n))) 0 0 48 [some (.ref 1), some (.int (nI q)), some (.int (orI (lfB w m used) n)), some (.int sum), some (.int (bI b)), some (.int (orI (myB w q (lfB w m used)) n)), some (.int (nI k))] [] (mX o (bX x A' (it st S k).1 B')) := by
      intro d
      induction d with
      | zero =>
        intro k hk A' B' hA' hB'
        have ek : k = n := by omega
        subst ek
        refine gl_iload dX0_bestOn_48 rfl ?_
        refine gl_aload_n dX0_bestOn_50 rfl ?_
        refine gl_get (k := 7) dX0_bestOn_51 rfl (rfl : vwCl[0]? = some (RX0, TX0, 30)) in_X0 (by decide) q119 rfl ?_
        refine gl_icmp_ge (tgt := 115) dX0_bestOn_54 (by decide) (fun _ => ?_) (fun h => absurd ((by show x.1 7 ≤ nI k; rw [hX.many]; exact nI_le (Nat.le_refl _) (by omega))) h)
        refine gl_aload_n dX0_bestOn_115 rfl ?_
        refine gl_get (k := 23) dX0_bestOn_116 rfl (rfl : vwCl[0]? = some (RX0, TX0, 30)) in_X0 (by decide) q136 rfl ?_
        refine gl_iload_n dX0_bestOn_119 rfl ?_
        refine gl_bipush (v := (-9)) dX0_bestOn_120 (by decide) ?_
        refine gl_iast (j := q) dX0_bestOn_122 rfl rfl (by omega) ?_
        refine gl_mem (μ1 := mX o (bX x (upd A' q (-9)) (it st S k).1 B')) rfl ?_
        refine gl_aload_n dX0_bestOn_123 rfl ?_
        refine gl_iload_n dX0_bestOn_124 rfl ?_
        refine gl_iconst (v := nI 1) dX0_bestOn_125 (by decide) ?_
        refine gl_iadd dX0_bestOn_126 ?_
        rw [nI_add]
        refine gl_iload_n dX0_bestOn_127 rfl ?_
        refine gl_iload_n dX0_bestOn_128 rfl ?_
        refine gl_iload dX0_bestOn_129 rfl ?_
        refine gl_callV (ih (q + 1) (by omega) used (upd ch q (nI k)) sum (upd A' q (-9)) B' (it st S k) (pr_none hA' hA) hB') dX0_bestOn_131 q819 q821 qs27 q74 q822 rfl hX0_bestOn rfl (rfl : vwCl[0]? = some (RX0, TX0, 30)) rfl rfl (rmOk (by omega) rfl) ⟨by first | exact Nat.le_refl _ | exact Nat.zero_le _ | decide | (dsimp only [rm]; omega), by first | exact Nat.le_refl _ | exact Nat.zero_le _ | decide | (dsimp only [rm]; omega)⟩ ?_
        rintro _ _ ⟨rfl, A2, B2, h1, h2, rfl⟩
        exact gl_vret dX0_bestOn_134 rfl ⟨rfl, A2, B2, fun j hj => by rw [h1 j (by omega), pk_un (by omega)]; exact hA' j hj, h2, rfl⟩ (hc := by first | exact Nat.zero_le _ | (dsimp only [rm]; omega)) (hs := by first | exact Nat.zero_le _ | (dsimp only [rm]; omega))
      | succ d ihd =>
        intro k hk A' B' hA' hB'
        have hkn : k < n := by omega
        have es : it st S (k + 1) = if mayB w m q k && !used k then wk (mayB w m) (wtI w b) n (VB n) r (q + 1) (upB used k true) (upd ch q (nI k)) (sum + wtI w b q) (it st S k) else it st S k := by rw [← hst]; rfl
        refine gl_iload dX0_bestOn_48 rfl ?_
        refine gl_aload_n dX0_bestOn_50 rfl ?_
        refine gl_get (k := 7) dX0_bestOn_51 rfl (rfl : vwCl[0]? = some (RX0, TX0, 30)) in_X0 (by decide) q119 rfl ?_
        refine gl_icmp_ge (tgt := 115) dX0_bestOn_54 (by decide) (fun h => absurd h ((by show ¬ x.1 7 ≤ nI k; rw [hX.many]; exact nI_ge hkn (by omega)))) (fun _ => ?_)
        refine gl_iload dX0_bestOn_57 rfl ?_
        refine gl_iload dX0_bestOn_59 rfl ?_
        refine gl_callS (x_has L _ _ k (by omega)) dX0_bestOn_61 q827 q828 q74 q829 rfl hX0_has rfl rfl (rmOk (by omega) rfl) ⟨by first | exact Nat.le_refl _ | exact Nat.zero_le _ | decide | (dsimp only [rm]; omega), by first | exact Nat.le_refl _ | exact Nat.zero_le _ | decide | (dsimp only [rm]; omega)⟩ (rt1 ?_)
        rw [bit_orI _ _ _ (by omega) (by omega), decide_eq_true hkn, Bool.true_and, myB_may]
        refine gl_if_eq (tgt := 109) dX0_bestOn_64 (by decide) (fun h64 => ?_) (fun h64 => ?_)
        · have hz := bI_fa h64
          rw [hz, if_neg (by decide)] at es
          refine gl_iinc (v := (nI (k + 1))) dX0_bestOn_109 rfl (nI_1 _) rfl rfl ?_
          refine gl_goto (tgt := 48) dX0_bestOn_112 (by decide) ?_
          rw [← es]
          refine ihd (k + 1) (by omega) A' B' hA' ?_
          rw [es]
          exact hB'
        · have hz := bI_tr h64
          rw [hz, if_pos rfl] at es
          have tl : ∀ v, v = wtI w b q → GL gX0_bestOn (rm (L + 20 + (r + 1)) 0 0) (bPost o x m q A (wk (mayB w m) (wtI w b) n (VB n) r (q + 1) used (upd ch q (nI n)) sum (it st S n))) 0 0 103 [some (.ref 1), some (.int (nI q)), some (.int (orI (lfB w m used) n)), some (.int sum), some (.int (bI b)), some (.int (orI (myB w q (lfB w m used)) n)), some (.int (nI k))] [.int v, .int sum, .int (orI (lfB w m (upB used k true)) n), .int (nI (q + 1)), .ref 1] (mX o (bX x (upd A' q (nI k)) (it st S k).1 B')) := by
            intro v hv
            subst hv
            refine gl_iadd dX0_bestOn_103 ?_
            refine gl_iload dX0_bestOn_104 rfl ?_
            refine gl_callV (ih (q + 1) (by omega) (upB used k true) (upd ch q (nI k)) (sum + wtI w b q) (upd A' q (nI k)) B' (it st S k) (pr_card hkn h7 hA' hA) hB') dX0_bestOn_106 q819 q821 qs27 q74 q822 rfl hX0_bestOn rfl (rfl : vwCl[0]? = some (RX0, TX0, 30)) rfl rfl (rmOk (by omega) rfl) ⟨by first | exact Nat.le_refl _ | exact Nat.zero_le _ | decide | (dsimp only [rm]; omega), by first | exact Nat.le_refl _ | exact Nat.zero_le _ | decide | (dsimp only [rm]; omega)⟩ ?_
            rintro _ _ ⟨rfl, A2, B2, h1, h2, rfl⟩
            rw [← es] at h2 ⊢
            refine gl_iinc (v := (nI (k + 1))) dX0_bestOn_109 rfl (nI_1 _) rfl rfl ?_
            refine gl_goto (tgt := 48) dX0_bestOn_112 (by decide) ?_
            exact ihd (k + 1) (by omega) A2 B2 (fun j hj => by rw [h1 j (by omega), pk_un (by omega)]; exact hA' j hj) h2
          refine gl_aload_n dX0_bestOn_67 rfl ?_
          refine gl_get (k := 23) dX0_bestOn_68 rfl (rfl : vwCl[0]? = some (RX0, TX0, 30)) in_X0 (by decide) q136 rfl ?_
          refine gl_iload_n dX0_bestOn_71 rfl ?_
          refine gl_iload dX0_bestOn_72 rfl ?_
          refine gl_iast (j := q) dX0_bestOn_74 rfl rfl (by omega) ?_
          refine gl_mem (μ1 := mX o (bX x (upd A' q (nI k)) (it st S k).1 B')) rfl ?_
          refine gl_aload_n dX0_bestOn_75 rfl ?_
          refine gl_iload_n dX0_bestOn_76 rfl ?_
          refine gl_iconst (v := nI 1) dX0_bestOn_77 (by decide) ?_
          refine gl_iadd dX0_bestOn_78 ?_
          rw [nI_add]
          refine gl_iload_n dX0_bestOn_79 rfl ?_
          refine gl_iconst (v := nI 1) dX0_bestOn_80 (by decide) ?_
          refine gl_iload dX0_bestOn_81 rfl ?_
          refine gl_ishl dX0_bestOn_83 ?_
          refine gl_iconst (v := (-1)) dX0_bestOn_84 (by decide) ?_
          refine gl_ixor dX0_bestOn_85 ?_
          refine gl_iand dX0_bestOn_86 ?_
          rw [lf_del w m used (by omega) hkn]
          refine gl_iload_n dX0_bestOn_87 rfl ?_
          refine gl_iload dX0_bestOn_88 rfl ?_
          cases b with
          | true =>
            refine gl_if_eq (tgt := 102) dX0_bestOn_90 (by decide) (fun h => absurd h ((by decide))) (fun _ => ?_)
            refine gl_aload_n dX0_bestOn_93 rfl ?_
            refine gl_iload_n dX0_bestOn_94 rfl ?_
            refine gl_iconst (v := nI 3) dX0_bestOn_95 (by decide) ?_
            refine gl_callV (x_askOf L o (bX x (upd A' q (nI k)) (it st S k).1 B') (show RL o τ (bX x (upd A' q (nI k)) (it st S k).1 B') w n m t from hX) q 3 (by omega) (by omega) (by omega)) dX0_bestOn_96 q600 q602 qs14 q74 q603 rfl hX0_askOf rfl (rfl : vwCl[0]? = some (RX0, TX0, 30)) rfl rfl (rmOk (by omega) rfl) ⟨by first | exact Nat.le_refl _ | exact Nat.zero_le _ | decide | (dsimp only [rm]; omega), by first | exact Nat.le_refl _ | exact Nat.zero_le _ | decide | (dsimp only [rm]; omega)⟩ (rt1 ?_)
            refine gl_goto (tgt := 103) dX0_bestOn_99 (by decide) ?_
            exact tl _ rfl
          | false =>
            refine gl_if_eq (tgt := 102) dX0_bestOn_90 (by decide) (fun _ => ?_) (fun h => absurd (rfl) h)
            refine gl_iconst (v := nI 1) dX0_bestOn_102 (by decide) ?_
            exact tl _ rfl
    exact loop n 0 (by omega) A B (fun _ _ => rfl) hB
end XBo

