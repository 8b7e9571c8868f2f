/-! the component: by age; counts -/
set_option maxRecDepth 100000
section BGs
variable {w : Nat → Int32} {r n : Nat} {F G : Nat → Int32}
theorem bg_ltn {a c : Nat} (hg : rg w 24 9) (hn : n ≤ 7) (ha : a < 10) (hc : c < n) (h : w (24 + c) = nI 9 - nI a) : (bgC w r (nI 9 - nI a) (bgA w r n F a) c).1 < n := by
  have h1 := bgA_1 (r := r) (f := F) hg hn (a + 1) (by omega)
  rw [show bgA w r n F (a + 1) = bgC w r (nI 9 - nI a) (bgA w r n F a) n from rfl, bgC_1] at h1
  have h2 := cN_le (fun c => decide (10 - (a + 1) ≤ ix (w (24 + c)))) n
  rw [bgC_1]
  have h3 := cN_mono (fun c => w (24 + c) == nI 9 - nI a) (show c + 1 ≤ n by omega)
  rw [show cN (fun c => w (24 + c) == nI 9 - nI a) (c + 1) = cN (fun c => w (24 + c) == nI 9 - nI a) c + (w (24 + c) == nI 9 - nI a).toNat from rfl, h] at h3
  simp at h3
  simp at h1 h2
  omega
theorem bgC_rel (g : Int32) {u v : BG} (h1 : u.1 = v.1) (h2 : ∀ i, i < 40 → u.2 (40 * r + i) = v.2 i) : ∀ c, (bgC w r g u c).1 = (bgC w 0 g v c).1 ∧ ∀ i, i < 40 → (bgC w r g u c).2 (40 * r + i) = (bgC w 0 g v c).2 i := by
  intro c
  induction c with
  | zero => exact ⟨h1, h2⟩
  | succ c ih =>
    have e1 : bgC w r g u (c + 1) = if w (24 + c) = g then ((bgC w r g u c).1 + 1, upd (bgC w r g u c).2 (40 * r + (bgC w r g u c).1) (nI c)) else bgC w r g u c := rfl
    have e2 : bgC w 0 g v (c + 1) = if w (24 + c) = g then ((bgC w 0 g v c).1 + 1, upd (bgC w 0 g v c).2 (40 * 0 + (bgC w 0 g v c).1) (nI c)) else bgC w 0 g v c := rfl
    rw [e1, e2]
    by_cases h : w (24 + c) = g
    · rw [if_pos h, if_pos h]
      refine ⟨by show _ + 1 = _ + 1; rw [ih.1], fun i hi => ?_⟩
      show upd _ _ _ _ = upd _ _ _ _
      rw [ih.1]
      simp only [upd]
      by_cases q : i = (bgC w 0 g v c).1
      · rw [if_pos (by omega), if_pos (by omega)]
      · rw [if_neg (by omega), if_neg (by omega)]
        exact ih.2 i hi
    · rw [if_neg h, if_neg h]
      exact ih
theorem bgA_rel (h : ∀ i, i < 40 → F (40 * r + i) = G i) : ∀ a, (bgA w r n F a).1 = (bgA w 0 n G a).1 ∧ ∀ i, i < 40 → (bgA w r n F a).2 (40 * r + i) = (bgA w 0 n G a).2 i
  | 0 => ⟨rfl, h⟩
  | a + 1 => bgC_rel _ (bgA_rel h a).1 (bgA_rel h a).2 n
theorem bgA_out (hg : rg w 24 9) (hn : n ≤ 7) {p : Nat} (hp : p < 40 * r ∨ 40 * r + 40 ≤ p) : ∀ a, a ≤ 10 → (bgA w r n F a).2 p = F p := by
  intro a
  induction a with
  | zero => intro _; rfl
  | succ a ih =>
    intro ha
    have key : ∀ c, c ≤ n → (bgC w r (nI 9 - nI a) (bgA w r n F a) c).2 p = F p := by
      intro c
      induction c with
      | zero => intro _; exact ih (by omega)
      | succ c ih2 =>
        intro hc
        have e1 : bgC w r (nI 9 - nI a) (bgA w r n F a) (c + 1) = if w (24 + c) = nI 9 - nI a then ((bgC w r (nI 9 - nI a) (bgA w r n F a) c).1 + 1, upd (bgC w r (nI 9 - nI a) (bgA w r n F a) c).2 (40 * r + (bgC w r (nI 9 - nI a) (bgA w r n F a) c).1) (nI c)) else bgC w r (nI 9 - nI a) (bgA w r n F a) c := rfl
        rw [e1]
        by_cases h : w (24 + c) = nI 9 - nI a
        · have := bg_lt (r := r) (f := F) hg hn (by omega) (show c < n by omega) h
          rw [if_pos h]
          show upd _ _ _ p = _
          rw [pk_un (by omega)]
          exact ih2 (by omega)
        · rw [if_neg h]
          exact ih2 (by omega)
    exact key n (Nat.le_refl _)
end BGs
section XT
variable (L : Nat) {o : OX} {τ : Nat → Nat} {x : XY} {y : MY} {n m t : Nat}
theorem x_byAge (hV : RV o τ x y n m t) (r : Int32) : Ct yX0_byAge gX0_byAge (L + 13) 3 300 [.ref 1, .int r] (mX o x) (XR o (sp_byAge y n r)) := by
  refine Ct.of rfl rfl rfl rfl rfl ?_
  have h33 := hV.h33
  have hX := hV.rl
  have hL := hV.lb
  have h7 := hL.c7
  unfold sp_byAge
  refine gl_iload_n dX0_byAge_0 rfl ?_
  refine gl_callS (x_isRow L _ _) dX0_byAge_1 q295 q296 q74 q297 rfl hX0_isRow rfl rfl (rmOk (by omega) rfl) ⟨by first | exact Nat.le_refl _ | exact Nat.zero_le _ | decide | (dsimp only [rm]; omega), by first | exact Nat.le_refl _ | exact Nat.zero_le _ | decide | (dsimp only [rm]; omega)⟩ (rt1 ?_)
  refine gl_if_ne (tgt := 9) dX0_byAge_4 (by decide) (fun h4 => ?_) (fun h4 => ?_)
  · have hr := bI_tr h4
    rw [if_pos hr]
    obtain ⟨k, -, hk, rfl⟩ := inR_nat (a := 0) (b := 5) (by omega) (by omega) hr
    rw [ix_nI (show k < 100 by omega)]
    refine gl_aload_n dX0_byAge_9 rfl ?_
    refine gl_get (k := 7) dX0_byAge_10 rfl (rfl : vwCl[0]? = some (RX0, TX0, 30)) in_X0 (by decide) q119 rfl ?_
    rw [hX.many]
    refine gl_newa (index := 0) (t := 0) (N := n) dX0_byAge_13 rfl q204 rfl (by omega) (pok_hi h33) (by dsimp only [rm]; omega) (by dsimp only [rm]; omega) ?_
    refine gl_mem (psh_hi h33) ?_
    refine gl_astore_n dX0_byAge_15 rfl rfl ?_
    refine gl_iconst (v := nI 0) dX0_byAge_16 (by decide) ?_
    refine gl_istore_n dX0_byAge_17 rfl rfl ?_
    refine gl_bipush (v := nI 9) dX0_byAge_18 (by decide) ?_
    refine gl_istore dX0_byAge_20 rfl rfl ?_
    refine gl_mem (μ1 := mX (oN o (.inl (0, n, (bgA (y.2.2 23) 0 n (fun _ => 0) 0).2))) x) rfl ?_
    refine gl_lcs (lc1 := [some (.ref 1), some (.int (nI k)), some (.ref o.1), some (.int (nI (bgA (y.2.2 23) 0 n (fun _ => 0) 0).1)), some (.int (nI 9 - nI 0)), none]) rfl ?_
    refine gl_loop (fun a => [some (.ref 1), some (.int (nI k)), some (.ref o.1), some (.int (nI (bgA (y.2.2 23) 0 n (fun _ => 0) a).1)), some (.int (nI 9 - nI a)), none]) (fun a => mX (oN o (.inl (0, n, (bgA (y.2.2 23) 0 n (fun _ => 0) a).2))) x) 10 ?_ ?_
    · intro a ha ih
      refine gl_iload dX0_byAge_22 rfl ?_
      refine gl_if_lt (tgt := 74) dX0_byAge_24 (by decide) (fun h => absurd h ((by rw [nI_sub (by omega)]; exact nI_pos (by omega)))) (fun _ => ?_)
      refine gl_iconst (v := nI 0) dX0_byAge_27 (by decide) ?_
      refine gl_istore dX0_byAge_28 rfl rfl ?_
      refine gl_loop (fun c => [some (.ref 1), some (.int (nI k)), some (.ref o.1), some (.int (nI (bgC (y.2.2 23) 0 (nI 9 - nI a) (bgA (y.2.2 23) 0 n (fun _ => 0) a) c).1)), some (.int (nI 9 - nI a)), some (.int (nI c))]) (fun c => mX (oN o (.inl (0, n, (bgC (y.2.2 23) 0 (nI 9 - nI a) (bgA (y.2.2 23) 0 n (fun _ => 0) a) c).2))) x) n ?_ ?_
      · intro c hc ih2
        have es : bgC (y.2.2 23) 0 (nI 9 - nI a) (bgA (y.2.2 23) 0 n (fun _ => 0) a) (c + 1) = if y.2.2 23 (24 + c) = nI 9 - nI a then ((bgC (y.2.2 23) 0 (nI 9 - nI a) (bgA (y.2.2 23) 0 n (fun _ => 0) a) c).1 + 1, upd (bgC (y.2.2 23) 0 (nI 9 - nI a) (bgA (y.2.2 23) 0 n (fun _ => 0) a) c).2 (40 * 0 + (bgC (y.2.2 23) 0 (nI 9 - nI a) (bgA (y.2.2 23) 0 n (fun _ => 0) a) c).1) (nI c)) else bgC (y.2.2 23) 0 (nI 9 - nI a) (bgA (y.2.2 23) 0 n (fun _ => 0) a) c := rfl
        have hb := bg_ltn (r := 0) (F := fun _ => 0) hL.age h7 ha hc
        rw [es] at ih2
        clear es ih
        generalize bgC (y.2.2 23) 0 (nI 9 - nI a) (bgA (y.2.2 23) 0 n (fun _ => 0) a) c = v at ih2 hb ⊢
        have hX2 : RL (oN o (.inl (0, n, v.2))) (va_up τ o.1 k) x (y.2.2 23) n m t := hX.tr (fun _ _ _ _ _ q => q.new)
        have hlk : lk (mX (oN o (.inl (0, n, v.2))) x) o.1 = some (.inl (0, n, v.2)) := (lk_hi h33).trans (va_up_self _ _ _)
        obtain ⟨p, e, -⟩ := hX.card c hc
        refine gl_iload dX0_byAge_30 rfl ?_
        refine gl_aload_n dX0_byAge_32 rfl ?_
        refine gl_get (k := 7) dX0_byAge_33 rfl (rfl : vwCl[0]? = some (RX0, TX0, 30)) in_X0 (by decide) q119 rfl ?_
        refine gl_icmp_ge (tgt := 68) dX0_byAge_36 (by decide) (fun h => absurd h ((by rw [hX.many]; exact nI_ge hc (by omega)))) (fun _ => ?_)
        refine gl_aload_n dX0_byAge_39 rfl ?_
        refine gl_get (k := 8) dX0_byAge_40 rfl (rfl : vwCl[0]? = some (RX0, TX0, 30)) in_X0 (by decide) q121 rfl ?_
        refine gl_iload dX0_byAge_43 rfl ?_
        refine gl_aald (j := c) dX0_byAge_45 rfl rfl (by omega) e ?_
        refine gl_ageFW hX2 hL hc e dX0_byAge_46 n452 ?_
        refine gl_iload dX0_byAge_49 rfl ?_
        refine gl_icmp_ne (tgt := 62) dX0_byAge_51 (by decide) (fun h51 => ?_) (fun h51 => ?_)
        · rw [if_neg h51] at ih2
          refine gl_iinc (v := (nI (c + 1))) dX0_byAge_62 rfl (nI_1 _) rfl rfl ?_
          refine gl_goto (tgt := 30) dX0_byAge_65 (by decide) ?_
          exact ih2
        · rw [if_pos h51, show 40 * 0 + v.1 = v.1 by omega] at ih2
          refine gl_aload_n dX0_byAge_54 rfl ?_
          refine gl_iload_n dX0_byAge_55 rfl ?_
          refine gl_iload dX0_byAge_56 rfl ?_
          refine gl_iast (j := v.1) dX0_byAge_58 hlk rfl (hb h51) ?_
          refine gl_mem (μ1 := mX (oN o (.inl (0, n, upd v.2 v.1 (nI c)))) x) (by rw [up_hi h33, oP_oN]) ?_
          refine gl_iinc (v := (nI (v.1 + 1))) dX0_byAge_59 rfl (nI_1 _) rfl rfl ?_
          refine gl_iinc (v := (nI (c + 1))) dX0_byAge_62 rfl (nI_1 _) rfl rfl ?_
          refine gl_goto (tgt := 30) dX0_byAge_65 (by decide) ?_
          exact ih2
      · refine gl_iload dX0_byAge_30 rfl ?_
        refine gl_aload_n dX0_byAge_32 rfl ?_
        refine gl_get (k := 7) dX0_byAge_33 rfl (rfl : vwCl[0]? = some (RX0, TX0, 30)) in_X0 (by decide) q119 rfl ?_
        refine gl_icmp_ge (tgt := 68) dX0_byAge_36 (by decide) (fun _ => ?_) (fun h => absurd ((by rw [hX.many]; exact nI_le (Nat.le_refl _) (by omega))) h)
        refine gl_drop 5 ?_
        refine gl_iinc dX0_byAge_68 rfl rfl rfl rfl ?_
        refine gl_goto (tgt := 22) dX0_byAge_71 (by decide) ?_
        refine gl_lcs ?_ ih
        rw [bg_dec a ha]
        rfl
    · refine gl_iload dX0_byAge_22 rfl ?_
      refine gl_if_lt (tgt := 74) dX0_byAge_24 (by decide) (fun _ => ?_) (fun h => absurd ((by decide)) h)
      refine gl_aload_n dX0_byAge_74 rfl ?_
      refine gl_get (k := 5) dX0_byAge_75 rfl (rfl : vwCl[0]? = some (RX0, TX0, 30)) in_X0 (by decide) q117 rfl ?_
      refine gl_iload_n dX0_byAge_78 rfl ?_
      refine gl_aload_n dX0_byAge_79 rfl ?_
      have hlk : lk (mX (oN o (.inl (0, n, (bgA (y.2.2 23) 0 n (fun _ => 0) 10).2))) x) o.1 = some (.inl (0, n, (bgA (y.2.2 23) 0 n (fun _ => 0) 10).2)) := (lk_hi h33).trans (va_up_self _ _ _)
      refine gl_aast (j := k) dX0_byAge_80 rfl rfl (by omega) hlk (fun _ _ _ => ⟨rfl, by omega⟩) ?_
      refine gl_aload_n dX0_byAge_81 rfl ?_
      refine gl_get (k := 7) dX0_byAge_82 rfl (rfl : vwCl[0]? = some (RX0, TX0, 30)) in_X0 (by decide) q119 rfl ?_
      refine gl_top (w := .int (nI n)) (congrArg Value.int hX.many) ?_
      have rel := bgA_rel (w := y.2.2 23) (r := k) (n := n) (F := fillI (y.2.2 20) (40 * k) 0 40) (G := fun _ => 0) (fun i hi => by unfold fillI; rw [if_pos (by omega)]) 10
      exact gl_iret dX0_byAge_85 rfl ⟨rfl, oN o _, tR x 3 (va_up (x.2.2.2.1 3) k (some o.1)), va_up τ o.1 k, n, m, t, rfl, ⟨rfl, rfl⟩, hV.rowS (r := k) (by omega) (Nat.le_succ_of_le h33) (fun _ _ _ _ q => q.new) (fun j hj => va_up_ne _ _ hj) (fun j hj => pk_un hj) (fun j hj i hi => by rw [bgA_out hL.age h7 (by omega) 10 (by omega)]; unfold fillI; rw [if_neg (by omega)]) (Or.inr ⟨o.1, n, _, va_up_self _ _ _, Own.news h33, pk_us, by omega, fun i hi => (rel.2 i (by omega)).symm⟩)⟩ (hc := by first | exact Nat.zero_le _ | (dsimp only [rm]; omega)) (hs := by first | exact Nat.zero_le _ | (dsimp only [rm]; omega))
  · rw [if_neg (by simp [bI_fa h4])]
    refine gl_iconst (v := (-1)) dX0_byAge_7 (by decide) ?_
    exact gl_iret dX0_byAge_8 rfl (XR.same hV) (hc := by first | exact Nat.zero_le _ | (dsimp only [rm]; omega)) (hs := by first | exact Nat.zero_le _ | (dsimp only [rm]; omega))
def tpR (x : XY) (wh k : Nat) : Bool := (wh == 6 && (x.2.2.2.1 3 k).isSome) || (wh == 7 && decide (k < 4) && (x.2.2.2.1 4 k).isSome) || (wh == 8 && decide (k < 3) && (x.2.2.2.1 13 k).isSome)
theorem x_thereOf (wh : Nat) (h6 : 6 ≤ wh) (h8 : wh ≤ 8) : Ct yX0_thereOf gX0_thereOf (L + 10) 0 0 [.ref 1, .int (nI wh)] (mX o x) (Rt (some (.int (cntI (tpR x wh) 6))) (mX o x)) := by
  refine Ct.of rfl rfl rfl rfl rfl ?_
  refine gl_iconst (v := nI 0) dX0_thereOf_0 (by decide) ?_
  refine gl_istore_n dX0_thereOf_1 rfl rfl ?_
  refine gl_iconst (v := nI 0) dX0_thereOf_2 (by decide) ?_
  refine gl_istore_n dX0_thereOf_3 rfl rfl ?_
  refine gl_loop (fun k => [some (.ref 1), some (.int (nI wh)), some (.int (cntI (tpR x wh) k)), some (.int (nI k))]) (fun _ => mX o x) 6 ?_ ?_
  · intro k hk ih
    have hi1 : tpR x wh k = true → GL gX0_thereOf (rm (L + 10) 0 0) (Rt (some (.int (cntI (tpR x wh) 6))) (mX o x)) 0 0 66 [some (.ref 1), some (.int (nI wh)), some (.int (cntI (tpR x wh) k)), some (.int (nI k))] [.int (cntI (tpR x wh) k)] (mX o x) := by
      intro hp
      refine gl_iconst (v := nI 1) dX0_thereOf_66 (by decide) ?_
      refine gl_goto (tgt := 71) dX0_thereOf_67 (by decide) ?_
      refine gl_iadd dX0_thereOf_71 ?_
      refine gl_istore_n dX0_thereOf_72 rfl rfl ?_
      refine gl_iinc (v := (nI (k + 1))) dX0_thereOf_73 rfl (nI_1 _) rfl rfl ?_
      refine gl_goto (tgt := 4) dX0_thereOf_76 (by decide) ?_
      refine gl_lcs ?_ ih
      simp only [cntI, hp]
      rfl
    have hi0 : tpR x wh k = false → GL gX0_thereOf (rm (L + 10) 0 0) (Rt (some (.int (cntI (tpR x wh) 6))) (mX o x)) 0 0 70 [some (.ref 1), some (.int (nI wh)), some (.int (cntI (tpR x wh) k)), some (.int (nI k))] [.int (cntI (tpR x wh) k)] (mX o x) := by
      intro hp
      refine gl_iconst (v := nI 0) dX0_thereOf_70 (by decide) ?_
      refine gl_iadd dX0_thereOf_71 ?_
      refine gl_istore_n dX0_thereOf_72 rfl rfl ?_
      refine gl_iinc (v := (nI (k + 1))) dX0_thereOf_73 rfl (nI_1 _) rfl rfl ?_
      refine gl_goto (tgt := 4) dX0_thereOf_76 (by decide) ?_
      refine gl_lcs ?_ ih
      simp only [cntI, hp]
      rfl
    refine gl_iload_n dX0_thereOf_4 rfl ?_
    refine gl_bipush (v := nI 6) dX0_thereOf_5 (by decide) ?_
    refine gl_icmp_ge (tgt := 79) dX0_thereOf_7 (by decide) (fun h => absurd h (nI_ge hk (by omega))) (fun _ => ?_)
    refine gl_iload_n dX0_thereOf_10 rfl ?_
    refine gl_iload_n dX0_thereOf_11 rfl ?_
    refine gl_bipush (v := nI 6) dX0_thereOf_12 (by decide) ?_
    rcases (show wh = 6 ∨ wh = 7 ∨ wh = 8 by omega) with rfl | rfl | rfl
    · refine gl_icmp_ne (tgt := 26) dX0_thereOf_14 (by decide) (fun h => absurd (rfl) h) (fun _ => ?_)
      refine gl_aload_n dX0_thereOf_17 rfl ?_
      refine gl_get (k := 5) dX0_thereOf_18 rfl (rfl : vwCl[0]? = some (RX0, TX0, 30)) in_X0 (by decide) q117 rfl ?_
      refine gl_iload_n dX0_thereOf_21 rfl ?_
      cases e : x.2.2.2.1 3 k with
      | none =>
        refine gl_aald (j := k) dX0_thereOf_22 rfl rfl (by omega) e ?_
        refine gl_ifnonnullN dX0_thereOf_23 ?_
        refine gl_iload_n dX0_thereOf_26 rfl ?_
        refine gl_bipush (v := nI 7) dX0_thereOf_27 (by decide) ?_
        refine gl_icmp_ne (tgt := 46) dX0_thereOf_29 (by decide) (fun _ => ?_) (fun h => absurd h ((by decide)))
        refine gl_iload_n dX0_thereOf_46 rfl ?_
        refine gl_bipush (v := nI 8) dX0_thereOf_47 (by decide) ?_
        refine gl_icmp_ne (tgt := 70) dX0_thereOf_49 (by decide) (fun _ => ?_) (fun h => absurd h ((by decide)))
        exact hi0 (by simp [tpR, e])
      | some p =>
        refine gl_aald (j := k) dX0_thereOf_22 rfl rfl (by omega) e ?_
        refine gl_ifnonnull (tgt := 66) dX0_thereOf_23 (by decide) ?_
        exact hi1 (by simp [tpR, e])
    · refine gl_icmp_ne (tgt := 26) dX0_thereOf_14 (by decide) (fun _ => ?_) (fun h => absurd h ((by decide)))
      refine gl_iload_n dX0_thereOf_26 rfl ?_
      refine gl_bipush (v := nI 7) dX0_thereOf_27 (by decide) ?_
      refine gl_icmp_ne (tgt := 46) dX0_thereOf_29 (by decide) (fun h => absurd (rfl) h) (fun _ => ?_)
      refine gl_iload_n dX0_thereOf_32 rfl ?_
      refine gl_iconst (v := nI 4) dX0_thereOf_33 (by decide) ?_
      by_cases h4 : k < 4
      · refine gl_icmp_ge (tgt := 46) dX0_thereOf_34 (by decide) (fun h => absurd h (nI_ge h4 (by omega))) (fun _ => ?_)
        refine gl_aload_n dX0_thereOf_37 rfl ?_
        refine gl_get (k := 6) dX0_thereOf_38 rfl (rfl : vwCl[0]? = some (RX0, TX0, 30)) in_X0 (by decide) q118 rfl ?_
        refine gl_iload_n dX0_thereOf_41 rfl ?_
        cases e : x.2.2.2.1 4 k with
        | none =>
          refine gl_aald (j := k) dX0_thereOf_42 rfl rfl (by omega) e ?_
          refine gl_ifnonnullN dX0_thereOf_43 ?_
          refine gl_iload_n dX0_thereOf_46 rfl ?_
          refine gl_bipush (v := nI 8) dX0_thereOf_47 (by decide) ?_
          refine gl_icmp_ne (tgt := 70) dX0_thereOf_49 (by decide) (fun _ => ?_) (fun h => absurd h ((by decide)))
          exact hi0 (by simp [tpR, e])
        | some p =>
          refine gl_aald (j := k) dX0_thereOf_42 rfl rfl (by omega) e ?_
          refine gl_ifnonnull (tgt := 66) dX0_thereOf_43 (by decide) ?_
          exact hi1 (by simp [tpR, e, h4])
      · refine gl_icmp_ge (tgt := 46) dX0_thereOf_34 (by decide) (fun _ => ?_) (fun h => absurd (nI_le (by omega) (by omega)) h)
        refine gl_iload_n dX0_thereOf_46 rfl ?_
        refine gl_bipush (v := nI 8) dX0_thereOf_47 (by decide) ?_
        refine gl_icmp_ne (tgt := 70) dX0_thereOf_49 (by decide) (fun _ => ?_) (fun h => absurd h ((by decide)))
        exact hi0 (by simp [tpR, h4])
    · refine gl_icmp_ne (tgt := 26) dX0_thereOf_14 (by decide) (fun _ => ?_) (fun h => absurd h ((by decide)))
      refine gl_iload_n dX0_thereOf_26 rfl ?_
      refine gl_bipush (v := nI 7) dX0_thereOf_27 (by decide) ?_
      refine gl_icmp_ne (tgt := 46) dX0_thereOf_29 (by decide) (fun _ => ?_) (fun h => absurd h ((by decide)))
      refine gl_iload_n dX0_thereOf_46 rfl ?_
      refine gl_bipush (v := nI 8) dX0_thereOf_47 (by decide) ?_
      refine gl_icmp_ne (tgt := 70) dX0_thereOf_49 (by decide) (fun h => absurd (rfl) h) (fun _ => ?_)
      refine gl_iload_n dX0_thereOf_52 rfl ?_
      refine gl_iconst (v := nI 3) dX0_thereOf_53 (by decide) ?_
      by_cases h3 : k < 3
      · refine gl_icmp_ge (tgt := 70) dX0_thereOf_54 (by decide) (fun h => absurd h (nI_ge h3 (by omega))) (fun _ => ?_)
        refine gl_aload_n dX0_thereOf_57 rfl ?_
        refine gl_get (k := 22) dX0_thereOf_58 rfl (rfl : vwCl[0]? = some (RX0, TX0, 30)) in_X0 (by decide) q135 rfl ?_
        refine gl_iload_n dX0_thereOf_61 rfl ?_
        cases e : x.2.2.2.1 13 k with
        | none =>
          refine gl_aald (j := k) dX0_thereOf_62 rfl rfl (by omega) e ?_
          refine gl_ifnullN (tgt := 70) dX0_thereOf_63 (by decide) ?_
          exact hi0 (by simp [tpR, e])
        | some p =>
          refine gl_aald (j := k) dX0_thereOf_62 rfl rfl (by omega) e ?_
          refine gl_ifnull dX0_thereOf_63 ?_
          exact hi1 (by simp [tpR, e, h3])
      · refine gl_icmp_ge (tgt := 70) dX0_thereOf_54 (by decide) (fun _ => ?_) (fun h => absurd (nI_le (by omega) (by omega)) h)
        exact hi0 (by simp [tpR, h3])
  · refine gl_iload_n dX0_thereOf_4 rfl ?_
    refine gl_bipush (v := nI 6) dX0_thereOf_5 (by decide) ?_
    refine gl_icmp_ge (tgt := 79) dX0_thereOf_7 (by decide) (fun _ => ?_) (fun h => absurd ((by decide)) h)
    refine gl_iload_n dX0_thereOf_79 rfl ?_
    exact gl_iret dX0_thereOf_80 rfl ⟨rfl, rfl⟩ (hc := by first | exact Nat.zero_le _ | (dsimp only [rm]; omega)) (hs := by first | exact Nat.zero_le _ | (dsimp only [rm]; omega))
theorem cntF_0 (p : Nat → Bool) : ∀ k, cntF (nI 0) p k = cntI p k
  | 0 => rfl
  | k + 1 => by unfold cntF cntI; rw [cntF_0 p k]
theorem cnt_no {p : Nat → Bool} : ∀ {n : Nat}, (∀ c, c < n → p c = false) → cntI p n = nI 0
  | 0, _ => rfl
  | n + 1, h => by
    unfold cntI
    rw [cnt_no (fun c hc => h c (by omega)), h n (by omega)]
    decide
theorem cnt_more {p : Nat → Bool} {n : Nat} : ∀ k, (∀ c, n ≤ c → c < n + k → p c = false) → cntI p (n + k) = cntI p n
  | 0, _ => rfl
  | k + 1, h => by
    show cntI p (n + k) + bI (p (n + k)) = _
    rw [cnt_more k (fun c h1 h2 => h c h1 (by omega)), h (n + k) (by omega) (by omega), cntI_nI]
    show nI _ + nI 0 = _
    rw [nI_add]
    rfl
theorem rowR.some {tag ty N : Nat} {r : Option Nat} {sz : Int32} {g : Nat → Int32} (h : rowR o τ tag ty N r sz g) (hN : N < 2 ^ 31) : r.isSome = !decide (sz < 0) := by
  rcases h with ⟨e, es⟩ | ⟨k, s, f, e, -, es, hs, -⟩
  · rw [e, es]; decide
  · have : ¬ nI s < 0 := nI_pos (by omega)
    rw [e, es]
    simp [this]
theorem there_ok (hV : RV o τ x y n m t) (wh : Nat) (h6 : 6 ≤ wh) (h8 : wh ≤ 8) : cntI (tpR x wh) 6 = ctI y n m wh := by
  have z1 : cg1 (y.2.2 23) n m wh = nI 0 := by
    unfold cg1
    refine cnt_no (fun c _ => ?_)
    rw [show (wh == 3) = false by simp; omega, show (wh == 5) = false by simp; omega]
    rfl
  unfold ctI
  rw [if_neg (by omega), z1]
  rcases (show wh = 6 ∨ wh = 7 ∨ wh = 8 by omega) with rfl | rfl | rfl
  · unfold cg5 cg4 cg3 cg2
    rw [if_neg (by decide), if_neg (by decide), if_pos rfl, if_neg (by decide), cntF_0]
    exact cntI_eq (fun k hk => by rw [← (hV.row k hk).some (by omega)]; simp [tpR])
  · unfold cg5 cg4 cg3 cg2
    rw [if_neg (by decide), if_pos rfl, if_neg (by decide), if_neg (by decide), cntF_0, show 6 = 4 + 2 from rfl, cnt_more 2 (fun c h1 h2 => by simp [tpR]; omega)]
    exact cntI_eq (fun k hk => by rw [← (hV.text k hk).some (by omega)]; simp [tpR, hk])
  · unfold cg5 cg4 cg3 cg2
    rw [if_pos rfl, if_neg (by decide), if_neg (by decide), if_neg (by decide), cntF_0, show 6 = 3 + 3 from rfl, cnt_more 3 (fun c h1 h2 => by simp [tpR]; omega)]
    exact cntI_eq (fun k hk => by
      rcases hV.kept k hk with ⟨e, es⟩ | ⟨p, a, u, f, e, es, -⟩
      · rw [es]; simp [tpR, e]
      · simp [tpR, e, hk, es])
theorem x_countOf (hV : RV o τ x y n m t) (wh : Nat) (hw : wh < 9) : Ct yX0_countOf gX0_countOf (L + 16) 0 0 [.ref 1, .int (nI wh)] (mX o x) (Rt (some (.int (ctI y n m wh))) (mX o x)) := by
  refine Ct.of rfl rfl rfl rfl rfl ?_
  have hX := hV.rl
  have hL := hV.lb
  have h7 := hL.c7
  rcases Nat.lt_or_ge wh 6 with h6 | h6
  · match wh, h6 with
    | 0, _ =>
      refine gl_iload_n dX0_countOf_0 rfl ?_
      refine gl_tableIn (tgt := 40) dX0_countOf_1 (by decide) (by decide) rfl (by decide) ?_
      refine gl_aload_n dX0_countOf_40 rfl ?_
      refine gl_get (k := 7) dX0_countOf_41 rfl (rfl : vwCl[0]? = some (RX0, TX0, 30)) in_X0 (by decide) q119 rfl ?_
      rw [hX.many]
      exact gl_iret dX0_countOf_44 rfl ⟨by rw [← hL.c]; rfl, rfl⟩ (hc := by first | exact Nat.zero_le _ | (dsimp only [rm]; omega)) (hs := by first | exact Nat.zero_le _ | (dsimp only [rm]; omega))
    | 1, _ =>
      refine gl_iload_n dX0_countOf_0 rfl ?_
      refine gl_tableIn (tgt := 45) dX0_countOf_1 (by decide) (by decide) rfl (by decide) ?_
      refine gl_aload_n dX0_countOf_45 rfl ?_
      refine gl_get (k := 9) dX0_countOf_46 rfl (rfl : vwCl[0]? = some (RX0, TX0, 30)) in_X0 (by decide) q122 rfl ?_
      rw [hX.askMany]
      exact gl_iret dX0_countOf_49 rfl ⟨by rw [← hL.q]; rfl, rfl⟩ (hc := by first | exact Nat.zero_le _ | (dsimp only [rm]; omega)) (hs := by first | exact Nat.zero_le _ | (dsimp only [rm]; omega))
    | 2, _ =>
      refine gl_iload_n dX0_countOf_0 rfl ?_
      refine gl_tableIn (tgt := 50) dX0_countOf_1 (by decide) (by decide) rfl (by decide) ?_
      refine gl_aload_n dX0_countOf_50 rfl ?_
      refine gl_get (k := 19) dX0_countOf_51 rfl (rfl : vwCl[0]? = some (RX0, TX0, 30)) in_X0 (by decide) q132 rfl ?_
      rw [hX.takingMany]
      exact gl_iret dX0_countOf_54 rfl ⟨by rw [← hL.tk]; rfl, rfl⟩ (hc := by first | exact Nat.zero_le _ | (dsimp only [rm]; omega)) (hs := by first | exact Nat.zero_le _ | (dsimp only [rm]; omega))
    | 3, _ =>
      refine gl_iload_n dX0_countOf_0 rfl ?_
      refine gl_tableIn (tgt := 55) dX0_countOf_1 (by decide) (by decide) rfl (by decide) ?_
      refine gl_aload_n dX0_countOf_55 rfl ?_
      refine gl_callV (x_freeCards L o x hX hL) dX0_countOf_56 q815 q817 qs26 q74 q818 rfl hX0_freeCards rfl (rfl : vwCl[0]? = some (RX0, TX0, 30)) rfl rfl (rmOk (by omega) rfl) ⟨by first | exact Nat.le_refl _ | exact Nat.zero_le _ | decide | (dsimp only [rm]; omega), by first | exact Nat.le_refl _ | exact Nat.zero_le _ | decide | (dsimp only [rm]; omega)⟩ (rt1 ?_)
      refine gl_callS (j_bc L _ _) dX0_countOf_59 q889 q890 q95 q891 rfl hJ11_bitCount rfl rfl (rmOk (by omega) rfl) ⟨by first | exact Nat.le_refl _ | exact Nat.zero_le _ | decide | (dsimp only [rm]; omega), by first | exact Nat.le_refl _ | exact Nat.zero_le _ | decide | (dsimp only [rm]; omega)⟩ (rt1 ?_)
      rw [bc_n _ h7]
      exact gl_iret dX0_countOf_62 rfl ⟨by show _ = some (Value.int (cg1 (y.2.2 23) n m 3)); exact congrArg (fun z => some (Value.int z)) (cntI_eq (fun c hc => by simp)), rfl⟩ (hc := by first | exact Nat.zero_le _ | (dsimp only [rm]; omega)) (hs := by first | exact Nat.zero_le _ | (dsimp only [rm]; omega))
    | 4, _ =>
      refine gl_iload_n dX0_countOf_0 rfl ?_
      refine gl_tableIn (tgt := 63) dX0_countOf_1 (by decide) (by decide) rfl (by decide) ?_
      refine gl_aload_n dX0_countOf_63 rfl ?_
      refine gl_callV (x_freeQuestions L o x hX hL) dX0_countOf_64 q980 q982 qs39 q74 q983 rfl hX0_freeQuestions rfl (rfl : vwCl[0]? = some (RX0, TX0, 30)) rfl rfl (rmOk (by omega) rfl) ⟨by first | exact Nat.le_refl _ | exact Nat.zero_le _ | decide | (dsimp only [rm]; omega), by first | exact Nat.le_refl _ | exact Nat.zero_le _ | decide | (dsimp only [rm]; omega)⟩ (rt1 ?_)
      exact gl_iret dX0_countOf_67 rfl ⟨by show _ = some (Value.int (cntF (cg1 (y.2.2 23) n m 4) (frQ (y.2.2 23)) m)); rw [show cg1 (y.2.2 23) n m 4 = nI 0 from cnt_no (fun c hc => by simp), cntF_0], rfl⟩ (hc := by first | exact Nat.zero_le _ | (dsimp only [rm]; omega)) (hs := by first | exact Nat.zero_le _ | (dsimp only [rm]; omega))
    | 5, _ =>
      refine gl_iload_n dX0_countOf_0 rfl ?_
      refine gl_tableIn (tgt := 68) dX0_countOf_1 (by decide) (by decide) rfl (by decide) ?_
      refine gl_aload_n dX0_countOf_68 rfl ?_
      refine gl_iconst (v := nI 2) dX0_countOf_69 (by decide) ?_
      refine gl_callV (x_cardsOf L o x hX hL _) dX0_countOf_70 q984 q986 qs40 q74 q987 rfl hX0_cardsOf rfl (rfl : vwCl[0]? = some (RX0, TX0, 30)) rfl rfl (rmOk (by omega) rfl) ⟨by first | exact Nat.le_refl _ | exact Nat.zero_le _ | decide | (dsimp only [rm]; omega), by first | exact Nat.le_refl _ | exact Nat.zero_le _ | decide | (dsimp only [rm]; omega)⟩ (rt1 ?_)
      exact gl_iret dX0_countOf_73 rfl ⟨by show _ = some (Value.int (cg1 (y.2.2 23) n m 5)); exact congrArg (fun z => some (Value.int z)) (cntI_eq (fun c hc => by simp; rfl)), rfl⟩ (hc := by first | exact Nat.zero_le _ | (dsimp only [rm]; omega)) (hs := by first | exact Nat.zero_le _ | (dsimp only [rm]; omega))
  · have e : (nI wh).toInt = wh := nI_toInt (by omega)
    refine gl_iload_n dX0_countOf_0 rfl ?_
    refine gl_tableOut (tgt := 74) dX0_countOf_1 (by right; rw [e]; omega) (by decide) ?_
    refine gl_aload_n dX0_countOf_74 rfl ?_
    refine gl_iload_n dX0_countOf_75 rfl ?_
    refine gl_callV (x_thereOf L wh h6 (by omega)) dX0_countOf_76 q988 q990 qs41 q74 q991 rfl hX0_thereOf rfl (rfl : vwCl[0]? = some (RX0, TX0, 30)) rfl rfl (rmOk (by omega) rfl) ⟨by first | exact Nat.le_refl _ | exact Nat.zero_le _ | decide | (dsimp only [rm]; omega), by first | exact Nat.le_refl _ | exact Nat.zero_le _ | decide | (dsimp only [rm]; omega)⟩ (rt1 ?_)
    exact gl_iret dX0_countOf_79 rfl ⟨by rw [there_ok hV wh h6 (by omega)], rfl⟩ (hc := by first | exact Nat.zero_le _ | (dsimp only [rm]; omega)) (hs := by first | exact Nat.zero_le _ | (dsimp only [rm]; omega))
theorem x_count (hV : RV o τ x y n m t) (wh : Int32) : Ct yX0_count gX0_count (L + 17) 0 0 [.ref 1, .int wh] (mX o x) (XR o (sp_count y n m wh)) := by
  refine Ct.of rfl rfl rfl rfl rfl ?_
  unfold sp_count
  refine gl_iload_n dX0_count_0 rfl ?_
  refine gl_iconst (v := nI 0) dX0_count_1 (by decide) ?_
  refine gl_bipush (v := nI 8) dX0_count_2 (by decide) ?_
  refine gl_callS (x_isIn L _ _ _ _) dX0_count_4 q298 q299 q74 q300 rfl hX0_isIn rfl rfl (rmOk (by omega) rfl) ⟨by first | exact Nat.le_refl _ | exact Nat.zero_le _ | decide | (dsimp only [rm]; omega), by first | exact Nat.le_refl _ | exact Nat.zero_le _ | decide | (dsimp only [rm]; omega)⟩ (rt1 ?_)
  refine gl_if_eq (tgt := 18) dX0_count_7 (by decide) (fun h7 => ?_) (fun h7 => ?_)
  · have z : inR wh 0 8 = false := bI_fa h7
    rw [if_neg (by simp [z])]
    refine gl_iconst (v := (-1)) dX0_count_18 (by decide) ?_
    exact gl_iret dX0_count_19 rfl (XR.same hV) (hc := by first | exact Nat.zero_le _ | (dsimp only [rm]; omega)) (hs := by first | exact Nat.zero_le _ | (dsimp only [rm]; omega))
  · have hr : inR wh 0 8 = true := bI_tr h7
    rw [if_pos hr]
    obtain ⟨k, -, hk, rfl⟩ := inR_nat (a := 0) (b := 8) (by omega) (by omega) hr
    rw [ix_nI (show k < 100 by omega)]
    refine gl_aload_n dX0_count_10 rfl ?_
    refine gl_iload_n dX0_count_11 rfl ?_
    refine gl_callV (x_countOf L hV k (by omega)) dX0_count_12 q976 q978 qs38 q74 q979 rfl hX0_countOf rfl (rfl : vwCl[0]? = some (RX0, TX0, 30)) rfl rfl (rmOk (by omega) rfl) ⟨by first | exact Nat.le_refl _ | exact Nat.zero_le _ | decide | (dsimp only [rm]; omega), by first | exact Nat.le_refl _ | exact Nat.zero_le _ | decide | (dsimp only [rm]; omega)⟩ (rt1 ?_)
    refine gl_goto (tgt := 19) dX0_count_15 (by decide) ?_
    exact gl_iret dX0_count_19 rfl (XR.same hV) (hc := by first | exact Nat.zero_le _ | (dsimp only [rm]; omega)) (hs := by first | exact Nat.zero_le _ | (dsimp only [rm]; omega))
end XT

