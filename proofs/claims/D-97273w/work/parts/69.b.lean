/-! the component goes on with what was kept -/
set_option maxRecDepth 100000
def onX (x : XY) (c : Int32) (f7 f8 f11 f12 : Nat → Int32) : XY := (fun k => if k = 19 then c else x.1 k, x.2.1, fun k => if k = 7 then f7 else if k = 8 then f8 else if k = 11 then f11 else if k = 12 then f12 else x.2.2.1 k, x.2.2.2.1, x.2.2.2.2)
def onW (w v : Nat → Int32) : Nat → Nat → Int32
  | 0 => w
  | j + 1 => upd (upd (onW w v j) (17 + j) (v (17 + j))) (24 + j) (v (24 + j))
theorem onW_out (w v : Nat → Int32) {a : Nat} (ha : a < 17 ∨ 31 ≤ a) : ∀ j, j ≤ 7 → onW w v j a = w a
  | 0, _ => rfl
  | j + 1, h => by
    unfold onW
    rw [pk_un (by omega), pk_un (by omega)]
    exact onW_out w v ha j (by omega)
theorem onW_in (w v : Nat → Int32) {c : Nat} : ∀ j, c < j → j ≤ 7 → onW w v j (17 + c) = v (17 + c) ∧ onW w v j (24 + c) = v (24 + c)
  | 0, h, _ => absurd h (Nat.not_lt_zero c)
  | j + 1, h, h7 => by
    unfold onW
    by_cases e : c = j
    · subst e
      exact ⟨by rw [pk_un (by omega), pk_us], pk_us⟩
    · have := onW_in w v (c := c) j (by omega) (by omega)
      exact ⟨by rw [pk_un (by omega), pk_un (by omega)]; exact this.1, by rw [pk_un (by omega), pk_un (by omega)]; exact this.2⟩
section ONs
variable {o : OX} {τ : Nat → Nat} {x : XY} {w v : Nat → Int32} {n m t u : Nat}
theorem RL_w (h : RL o τ x w n m t) (h7 : m ≤ 7) (h40 : t ≤ 40) (e1 : ∀ c, c < n → v (3 + c) = w (3 + c) ∧ v (10 + c) = w (10 + c) ∧ v (17 + c) = w (17 + c) ∧ v (24 + c) = w (24 + c)) (e2 : ∀ a, 31 ≤ a → a < 393 → v a = w a) : RL o τ x v n m t := ⟨h.1, fun c hc => by
  obtain ⟨k, h1, h2⟩ := h.card c hc
  obtain ⟨a1, a2, a3, a4⟩ := e1 c hc
  exact ⟨k, h1, by rw [a1, a2, a3, a4]; exact h2⟩, fun q hq j hj => (h.ask q hq j hj).trans (e2 _ (by omega) (by omega)).symm, fun q hq => (h.truth q hq).trans (e2 _ (by omega) (by omega)).symm, fun q hq => (h.by_ q hq).trans (e2 _ (by omega) (by omega)).symm, fun k hk => (h.taking k hk).trans (e2 _ (by omega) (by omega)).symm, fun j hj q hq => (h.ahead j hj q hq).trans (e2 _ (by omega) (by omega)).symm⟩
def mxW (w v : Nat → Int32) : Nat → Int32 := fun a => if 17 ≤ a ∧ a < 31 then w a else v a
theorem mxW_in (w v : Nat → Int32) {a : Nat} (h : 17 ≤ a ∧ a < 31) : mxW w v a = w a := if_pos h
theorem mxW_out (w v : Nat → Int32) {a : Nat} (h : a < 17 ∨ 31 ≤ a) : mxW w v a = v a := if_neg (by omega)
theorem Lb_mx (h : Lb w n m t) (hv : Lb v n m u) : Lb (mxW w v) n m u := by
  have h7 := hv.q7
  have e : ∀ a, a < 17 ∨ 31 ≤ a → mxW w v a = v a := fun a ha => mxW_out w v ha
  exact ⟨⟨(e 0 (by omega)).trans hv.1.1, hv.1.2⟩, ⟨(e 1 (by omega)).trans hv.2.1.1, hv.2.1.2⟩, ⟨(e 2 (by omega)).trans hv.2.2.1.1, hv.2.2.1.2⟩, rg_eq hv.kind (fun c hc => e _ (by omega)), rg_eq hv.says (fun c hc => e _ (by omega)), rg_eq h.shelf (fun c hc => mxW_in w v (by omega)), rg_eq h.age (fun c hc => mxW_in w v (by omega)), rg_eq hv.asks (fun c hc => e _ (by omega)), rg_eq hv.from_ (fun c hc => e _ (by omega)), rg_eq hv.to_ (fun c hc => e _ (by omega)), rg_eq hv.wish (fun c hc => e _ (by omega)), fun q hq => by rw [e _ (by omega)]; exact hv.truth q hq, Bv_eq hv.by_ (fun k hk => e _ (by omega)), fun j hj => Bv_eq (hv.ahead j hj) (fun k hk => e _ (by omega))⟩
end ONs
section XO
variable (L : Nat) {o : OX} {τ : Nat → Nat} {x : XY} {y : MY} {n m t : Nat}
theorem x_on (hV : RV o τ x y n m t) (k : Int32) : Ct yX0_on gX0_on (L + 15) 0 0 [.ref 1, .int k] (mX o x) (XR o (sp_on y k)) := by
  refine Ct.of rfl rfl rfl rfl rfl ?_
  have h33 := hV.h33
  have hX := hV.rl
  have hL := hV.lb
  have h7 := hL.c7
  have h7q := hL.q7
  unfold sp_on
  refine gl_iload_n dX0_on_0 rfl ?_
  refine gl_callS (x_isKept L _ _) dX0_on_1 q767 q768 q74 q769 rfl hX0_isKept rfl rfl (rmOk (by omega) rfl) ⟨by first | exact Nat.le_refl _ | exact Nat.zero_le _ | decide | (dsimp only [rm]; omega), by first | exact Nat.le_refl _ | exact Nat.zero_le _ | decide | (dsimp only [rm]; omega)⟩ (rt1 ?_)
  refine gl_if_ne (tgt := 9) dX0_on_4 (by decide) (fun h4 => ?_) (fun h4 => ?_)
  · have hr := bI_tr h4
    rw [if_pos hr]
    obtain ⟨k, -, hk, rfl⟩ := inR_nat (a := 0) (b := 2) (by omega) (by omega) hr
    rw [ix_nI (show k < 100 by omega)]
    rcases hV.kept k (by omega) with ⟨e, es⟩ | ⟨p, a, u, f, e, es, hO, hA, hLv, hfx, hkf⟩
    · rw [if_pos es]
      refine gl_aload_n dX0_on_9 rfl ?_
      refine gl_get (k := 22) dX0_on_10 rfl (rfl : vwCl[0]? = some (RX0, TX0, 30)) in_X0 (by decide) q135 rfl ?_
      refine gl_iload_n dX0_on_13 rfl ?_
      refine gl_aald (j := k) dX0_on_14 rfl rfl (by omega) e ?_
      refine gl_ifnonnullN dX0_on_15 ?_
      refine gl_aload_n dX0_on_18 rfl ?_
      refine gl_iconst (v := nI 1) dX0_on_19 (by decide) ?_
      refine gl_callV (x_found L o x 1 (by omega)) dX0_on_20 q301 q303 qs2 q74 q304 rfl hX0_found rfl (rfl : vwCl[0]? = some (RX0, TX0, 30)) rfl rfl (rmOk (by omega) rfl) ⟨by first | exact Nat.le_refl _ | exact Nat.zero_le _ | decide | (dsimp only [rm]; omega), by first | exact Nat.le_refl _ | exact Nat.zero_le _ | decide | (dsimp only [rm]; omega)⟩ (rt1 ?_)
      exact gl_iret dX0_on_23 rfl (XR.ofnd 1 (by omega) hV) (hc := by first | exact Nat.zero_le _ | (dsimp only [rm]; omega)) (hs := by first | exact Nat.zero_le _ | (dsimp only [rm]; omega))
    · rw [if_neg es]
      have h40 := hLv.t40
      generalize hv : (fun a => y.2.2 24 (393 * k + a)) = v at hLv hfx hkf
      have hv2 : y.2.2 24 (393 * k + 2) = nI u := (congrFun hv 2).trans hLv.tk
      refine gl_aload_n dX0_on_9 rfl ?_
      refine gl_get (k := 22) dX0_on_10 rfl (rfl : vwCl[0]? = some (RX0, TX0, 30)) in_X0 (by decide) q135 rfl ?_
      refine gl_iload_n dX0_on_13 rfl ?_
      refine gl_aald (j := k) dX0_on_14 rfl rfl (by omega) e ?_
      refine gl_ifnonnull (tgt := 24) dX0_on_15 (by decide) ?_
      refine gl_aload_n dX0_on_24 rfl ?_
      refine gl_get (k := 22) dX0_on_25 rfl (rfl : vwCl[0]? = some (RX0, TX0, 30)) in_X0 (by decide) q135 rfl ?_
      refine gl_iload_n dX0_on_28 rfl ?_
      refine gl_aald (j := k) dX0_on_29 rfl rfl (by omega) e ?_
      refine gl_astore_n dX0_on_30 rfl rfl ?_
      refine gl_aload_n dX0_on_31 rfl ?_
      refine gl_aload_n dX0_on_32 rfl ?_
      refine gl_getN (k := 0) dX0_on_33 hO.lk (rfl : vwCl[8]? = some (RX8, TX8, 7)) in_X8 (by decide) n775 rfl ?_
      refine gl_put (k := 19) dX0_on_36 rfl (rfl : vwCl[0]? = some (RX0, TX0, 30)) in_X0 tyX0 tyX0_ok nmX0 (by decide) rfl q132 (fun _ _ => ⟨rfl, rfl⟩) rfl ?_
      refine gl_aload_n dX0_on_39 rfl ?_
      refine gl_mem (μ1 := mX o (onX x (nI u) (x.2.2.1 7) (x.2.2.1 8) (x.2.2.1 11) (x.2.2.1 12))) rfl ?_
      refine gl_getN (k := 1) dX0_on_40 hO.lk (rfl : vwCl[8]? = some (RX8, TX8, 7)) in_X8 (by decide) n777 rfl ?_
      refine gl_iconst (v := nI 0) dX0_on_43 (by decide) ?_
      refine gl_aload_n dX0_on_44 rfl ?_
      refine gl_get (k := 20) dX0_on_45 rfl (rfl : vwCl[0]? = some (RX0, TX0, 30)) in_X0 (by decide) q133 rfl ?_
      refine gl_iconst (v := nI 0) dX0_on_48 (by decide) ?_
      refine gl_bipush (v := nI 40) dX0_on_49 (by decide) ?_
      refine gl_copy (n0 := a 0) (n1 := 11) (sp := 0) (dp := 0) (k := 40) dX0_on_51 q371 (hA 0 (by omega)).lk rfl rfl rfl rfl (by decide) (by omega) (by decide) (by omega) rfl (copyR (by omega)) ?_
      refine gl_mem (μ1 := mX o (onX x (nI u) (x.2.2.1 7) (x.2.2.1 8) (va_cpy (f 0) (x.2.2.1 11) 0 0 40) (x.2.2.1 12))) rfl ?_
      refine gl_aload_n dX0_on_54 rfl ?_
      refine gl_getN (k := 2) dX0_on_55 hO.lk (rfl : vwCl[8]? = some (RX8, TX8, 7)) in_X8 (by decide) n779 rfl ?_
      refine gl_iconst (v := nI 0) dX0_on_58 (by decide) ?_
      refine gl_aload_n dX0_on_59 rfl ?_
      refine gl_get (k := 21) dX0_on_60 rfl (rfl : vwCl[0]? = some (RX0, TX0, 30)) in_X0 (by decide) q134 rfl ?_
      refine gl_iconst (v := nI 0) dX0_on_63 (by decide) ?_
      refine gl_sipush (v := nI 280) dX0_on_64 (by decide) ?_
      refine gl_copy (n0 := a 1) (n1 := 12) (sp := 0) (dp := 0) (k := 280) dX0_on_67 q371 (hA 1 (by omega)).lk rfl rfl rfl rfl (by decide) (by omega) (by decide) (by omega) rfl (copyR (by omega)) ?_
      refine gl_mem (μ1 := mX o (onX x (nI u) (x.2.2.1 7) (x.2.2.1 8) (va_cpy (f 0) (x.2.2.1 11) 0 0 40) (va_cpy (f 1) (x.2.2.1 12) 0 0 280))) rfl ?_
      refine gl_aload_n dX0_on_70 rfl ?_
      refine gl_getN (k := 3) dX0_on_71 hO.lk (rfl : vwCl[8]? = some (RX8, TX8, 7)) in_X8 (by decide) n781 rfl ?_
      refine gl_iconst (v := nI 0) dX0_on_74 (by decide) ?_
      refine gl_aload_n dX0_on_75 rfl ?_
      refine gl_get (k := 12) dX0_on_76 rfl (rfl : vwCl[0]? = some (RX0, TX0, 30)) in_X0 (by decide) q125 rfl ?_
      refine gl_iconst (v := nI 0) dX0_on_79 (by decide) ?_
      refine gl_bipush (v := nI 7) dX0_on_80 (by decide) ?_
      refine gl_copy (n0 := a 2) (n1 := 8) (sp := 0) (dp := 0) (k := 7) dX0_on_82 q371 (hA 2 (by omega)).lk rfl rfl rfl rfl (by decide) (by omega) (by decide) (by omega) rfl (copyR (by omega)) ?_
      refine gl_mem (μ1 := mX o (onX x (nI u) (x.2.2.1 7) (va_cpy (f 2) (x.2.2.1 8) 0 0 7) (va_cpy (f 0) (x.2.2.1 11) 0 0 40) (va_cpy (f 1) (x.2.2.1 12) 0 0 280))) rfl ?_
      refine gl_aload_n dX0_on_85 rfl ?_
      refine gl_getN (k := 4) dX0_on_86 hO.lk (rfl : vwCl[8]? = some (RX8, TX8, 7)) in_X8 (by decide) n783 rfl ?_
      refine gl_iconst (v := nI 0) dX0_on_89 (by decide) ?_
      refine gl_aload_n dX0_on_90 rfl ?_
      refine gl_get (k := 11) dX0_on_91 rfl (rfl : vwCl[0]? = some (RX0, TX0, 30)) in_X0 (by decide) q124 rfl ?_
      refine gl_iconst (v := nI 0) dX0_on_94 (by decide) ?_
      refine gl_bipush (v := nI 7) dX0_on_95 (by decide) ?_
      refine gl_copy (n0 := a 3) (n1 := 7) (sp := 0) (dp := 0) (k := 7) dX0_on_97 q371 (hA 3 (by omega)).lk rfl rfl rfl rfl (by decide) (by omega) (by decide) (by omega) rfl (copyR (by omega)) ?_
      refine gl_mem (μ1 := mX o (onX x (nI u) (va_cpy (f 3) (x.2.2.1 7) 0 0 7) (va_cpy (f 2) (x.2.2.1 8) 0 0 7) (va_cpy (f 0) (x.2.2.1 11) 0 0 40) (va_cpy (f 1) (x.2.2.1 12) 0 0 280))) rfl ?_
      obtain ⟨k1, k2, k3, k4, k5, k6⟩ := hkf
      have hX0 : RL o τ (onX x (nI u) (va_cpy (f 3) (x.2.2.1 7) 0 0 7) (va_cpy (f 2) (x.2.2.1 8) 0 0 7) (va_cpy (f 0) (x.2.2.1 11) 0 0 40) (va_cpy (f 1) (x.2.2.1 12) 0 0 280)) (mxW (y.2.2 23) v) n m u := by
        refine ⟨⟨hX.many, hX.askMany, rfl⟩, fun c hc => ?_, fun q hq j hj => ?_, fun q hq => ?_, fun q hq => ?_, fun i hi => ?_, fun i hi q hq => ?_⟩
        · obtain ⟨kc, b1, b2⟩ := hX.card c hc
          refine ⟨kc, b1, ?_⟩
          rw [mxW_out _ _ (show 3 + c < 17 ∨ 31 ≤ 3 + c by omega), mxW_out _ _ (show 10 + c < 17 ∨ 31 ≤ 10 + c by omega), mxW_in _ _ (show 17 ≤ 17 + c ∧ 17 + c < 31 by omega), mxW_in _ _ (show 17 ≤ 24 + c ∧ 24 + c < 31 by omega), hfx (3 + c) ⟨by omega, by omega, by omega⟩, hfx (10 + c) ⟨by omega, by omega, by omega⟩]
          exact b2
        · rw [mxW_out _ _ (by omega), hfx _ ⟨by omega, by omega, by omega⟩]
          exact hX.ask q hq j hj
        · show va_cpy (f 3) (x.2.2.1 7) 0 0 7 q = _
          rw [mxW_out _ _ (by omega), pk_cpy_in (by omega) (by omega), Nat.zero_add, Nat.sub_zero]
          exact k4 q hq
        · show va_cpy (f 2) (x.2.2.1 8) 0 0 7 q = _
          rw [mxW_out _ _ (by omega), pk_cpy_in (by omega) (by omega), Nat.zero_add, Nat.sub_zero]
          exact k3 q hq
        · show va_cpy (f 0) (x.2.2.1 11) 0 0 40 i = _
          rw [mxW_out _ _ (by omega), pk_cpy_in (by omega) (by omega), Nat.zero_add, Nat.sub_zero]
          exact k1 i hi
        · show va_cpy (f 1) (x.2.2.1 12) 0 0 280 (7 * i + q) = _
          rw [mxW_out _ _ (by omega), pk_cpy_in (by omega) (by omega), Nat.zero_add, Nat.sub_zero]
          exact k2 i hi q hq
      have hL0 := Lb_mx hL hLv
      generalize hXX : onX x (nI u) (va_cpy (f 3) (x.2.2.1 7) 0 0 7) (va_cpy (f 2) (x.2.2.1 8) 0 0 7) (va_cpy (f 0) (x.2.2.1 11) 0 0 40) (va_cpy (f 1) (x.2.2.1 12) 0 0 280) = X at hX0 ⊢
      have e3 : X.2.2.2.1 3 = x.2.2.2.1 3 ∧ X.2.2.2.1 4 = x.2.2.2.1 4 ∧ X.2.2.2.1 13 = x.2.2.2.1 13 := by subst hXX; exact ⟨rfl, rfl, rfl⟩
      have ea : X.1 2 = x.1 2 ∧ X.1 0 = x.1 0 ∧ X.2.2.1 2 = x.2.2.1 2 ∧ X.2.1 3 = x.2.1 3 ∧ X.2.1 4 = x.2.1 4 := by subst hXX; exact ⟨rfl, rfl, rfl, rfl, rfl⟩
      clear hXX
      refine gl_iconst (v := nI 0) dX0_on_100 (by decide) ?_
      refine gl_istore_n dX0_on_101 rfl rfl ?_
      have loop : ∀ (d j : Nat), j + d = n → ∀ (o' : OX), 33 ≤ o'.1 → (o'.2.1 = o.2.1 ∧ o'.2.2.1 = o.2.2.1) → RL o' τ X (onW (mxW (y.2.2 23) v) v j) n m u → Lb (onW (mxW (y.2.2 23) v) v j) n m u → (∀ k tag c, (tag < 30 ∨ 40 ≤ tag) → Own o τ k tag c → Own o' τ k tag c) → GL gX0_on (rm (L + 15) 0 0) (XR o (y.2.2 24 (393 * k + 2), sA y 23 (va_cpy (y.2.2 24) (y.2.2 23) (393 * k) 0 393))) 0 0 102 [some (.ref 1), some (.int (nI k)), some (.ref p), some (.int (nI j))] [] (mX o' X) := by
        intro d
        induction d with
        | zero =>
          intro j hj o' h33 ho hXj hLj H
          have ej : j = n := by omega
          subst ej
          have ev : ∀ a, a < 393 → va_cpy (y.2.2 24) (y.2.2 23) (393 * k) 0 393 a = v a := fun a ha => by
            rw [pk_cpy_in (by omega) (by omega), Nat.sub_zero]
            exact congrFun hv a
          refine gl_iload_n dX0_on_102 rfl ?_
          refine gl_aload_n dX0_on_103 rfl ?_
          refine gl_get (k := 7) dX0_on_104 rfl (rfl : vwCl[0]? = some (RX0, TX0, 30)) in_X0 (by decide) q119 rfl ?_
          refine gl_icmp_ge (tgt := 146) dX0_on_107 (by decide) (fun _ => ?_) (fun h => absurd ((by rw [hXj.many]; exact nI_le (Nat.le_refl _) (by omega))) h)
          refine gl_aload_n dX0_on_146 rfl ?_
          refine gl_get (k := 19) dX0_on_147 rfl (rfl : vwCl[0]? = some (RX0, TX0, 30)) in_X0 (by decide) q132 rfl ?_
          refine gl_top (w := .int (y.2.2 24 (393 * k + 2))) (congrArg Value.int (hXj.takingMany.trans hv2.symm)) ?_
          exact gl_iret dX0_on_150 rfl ⟨rfl, o', X, τ, j, m, u, rfl, ho, hV.lib h33 H h7 (RL_w hXj h7q h40 (fun c hc => ⟨by rw [ev _ (by omega), onW_out _ _ (by omega) j h7, mxW_out _ _ (by omega)], by rw [ev _ (by omega), onW_out _ _ (by omega) j h7, mxW_out _ _ (by omega)], by rw [ev _ (by omega), (onW_in _ _ j hc h7).1], by rw [ev _ (by omega), (onW_in _ _ j hc h7).2]⟩) (fun b h1 h2 => by rw [ev b h2, onW_out _ _ (by omega) j h7, mxW_out _ _ (by omega)])) (Lb_congr hLv ev) (fun i hi => (ev i (by have := hi.1; omega)).trans (hfx i hi)) e3 ea⟩ (hc := by first | exact Nat.zero_le _ | (dsimp only [rm]; omega)) (hs := by first | exact Nat.zero_le _ | (dsimp only [rm]; omega))
        | succ d ih =>
          intro j hj o' h33 ho hXj hLj H
          have hc : j < n := by omega
          obtain ⟨pc, ec, hOc⟩ := hXj.card j hc
          obtain ⟨z1, hz1, ez1⟩ := hLv.shelf j (by omega)
          obtain ⟨z2, hz2, ez2⟩ := hLv.age j (by omega)
          have hOp := H _ _ _ (by omega) hO
          have h4 : lk (mX o' X) (a 4) = some (.inl (0, 7, f 4)) := (H _ _ _ (by omega) (hA 4 (by omega))).lk
          refine gl_iload_n dX0_on_102 rfl ?_
          refine gl_aload_n dX0_on_103 rfl ?_
          refine gl_get (k := 7) dX0_on_104 rfl (rfl : vwCl[0]? = some (RX0, TX0, 30)) in_X0 (by decide) q119 rfl ?_
          refine gl_icmp_ge (tgt := 146) dX0_on_107 (by decide) (fun h => absurd h ((by rw [hXj.many]; exact nI_ge hc (by omega)))) (fun _ => ?_)
          refine gl_aload_n dX0_on_110 rfl ?_
          refine gl_get (k := 8) dX0_on_111 rfl (rfl : vwCl[0]? = some (RX0, TX0, 30)) in_X0 (by decide) q121 rfl ?_
          refine gl_iload_n dX0_on_114 rfl ?_
          refine gl_aald (j := j) dX0_on_115 rfl rfl (by omega) ec ?_
          refine gl_aload_n dX0_on_116 rfl ?_
          refine gl_getN (k := 5) dX0_on_117 hOp.lk (rfl : vwCl[8]? = some (RX8, TX8, 7)) in_X8 (by decide) n785 rfl ?_
          refine gl_iload_n dX0_on_120 rfl ?_
          refine gl_iald (j := j) dX0_on_121 h4 rfl (by omega) ?_
          rw [k5 j hc]
          refine gl_shelfP hXj hLj hc ec dX0_on_122 n450 ?_
          have hX2 := RL_card (w' := upd (onW (mxW (y.2.2 23) v) v j) (17 + j) (v (17 + j))) (d := .inr (.inr (2 + ix (onW (mxW (y.2.2 23) v) v j (3 + j)), cdO (nI j) (onW (mxW (y.2.2 23) v) v j (10 + j)) (v (17 + j)) (onW (mxW (y.2.2 23) v) v j (24 + j))))) hXj h7 hc ec hOc.2.1 (fun b hb => pk_un (by omega)) (fun i hi hn => ⟨pk_un (by omega), pk_un (by omega)⟩) (by rw [pk_us, pk_un (by omega)])
          have hL2 : Lb (upd (onW (mxW (y.2.2 23) v) v j) (17 + j) (v (17 + j))) n m u := by rw [ez1]; exact Lb_shelf hLj (by omega) hz1
          have H2 : ∀ k tag c, (tag < 30 ∨ 40 ≤ tag) → Own o τ k tag c → Own (oP o' pc (.inr (.inr (2 + ix (onW (mxW (y.2.2 23) v) v j (3 + j)), cdO (nI j) (onW (mxW (y.2.2 23) v) v j (10 + j)) (v (17 + j)) (onW (mxW (y.2.2 23) v) v j (24 + j)))))) τ k tag c := fun k' tag c ht q => (H k' tag c ht q).put hOc.2.1 (by omega)
          replace ho : (oP o' pc (.inr (.inr (2 + ix (onW (mxW (y.2.2 23) v) v j (3 + j)), cdO (nI j) (onW (mxW (y.2.2 23) v) v j (10 + j)) (v (17 + j)) (onW (mxW (y.2.2 23) v) v j (24 + j)))))).2.1 = o.2.1 ∧ (oP o' pc (.inr (.inr (2 + ix (onW (mxW (y.2.2 23) v) v j (3 + j)), cdO (nI j) (onW (mxW (y.2.2 23) v) v j (10 + j)) (v (17 + j)) (onW (mxW (y.2.2 23) v) v j (24 + j)))))).2.2.1 = o.2.2.1 := ho
          replace h33 : 33 ≤ (oP o' pc (.inr (.inr (2 + ix (onW (mxW (y.2.2 23) v) v j (3 + j)), cdO (nI j) (onW (mxW (y.2.2 23) v) v j (10 + j)) (v (17 + j)) (onW (mxW (y.2.2 23) v) v j (24 + j)))))).1 := h33
          generalize oP o' pc (.inr (.inr (2 + ix (onW (mxW (y.2.2 23) v) v j (3 + j)), cdO (nI j) (onW (mxW (y.2.2 23) v) v j (10 + j)) (v (17 + j)) (onW (mxW (y.2.2 23) v) v j (24 + j))))) = o2 at hX2 H2 ho h33 ⊢
          have es3 : onW (mxW (y.2.2 23) v) v (j + 1) = upd (upd (onW (mxW (y.2.2 23) v) v j) (17 + j) (v (17 + j))) (24 + j) (v (24 + j)) := rfl
          generalize upd (onW (mxW (y.2.2 23) v) v j) (17 + j) (v (17 + j)) = W2 at hX2 hL2 es3
          obtain ⟨pc2, ec2, hOc2⟩ := hX2.card j hc
          rw [ec] at ec2
          cases ec2
          have hOp := H2 _ _ _ (by omega) hO
          have h5 : lk (mX o2 X) (a 5) = some (.inl (0, 7, f 5)) := (H2 _ _ _ (by omega) (hA 5 (by omega))).lk
          refine gl_aload_n dX0_on_125 rfl ?_
          refine gl_get (k := 8) dX0_on_126 rfl (rfl : vwCl[0]? = some (RX0, TX0, 30)) in_X0 (by decide) q121 rfl ?_
          refine gl_iload_n dX0_on_129 rfl ?_
          refine gl_aald (j := j) dX0_on_130 rfl rfl (by omega) ec ?_
          refine gl_aload_n dX0_on_131 rfl ?_
          refine gl_getN (k := 6) dX0_on_132 hOp.lk (rfl : vwCl[8]? = some (RX8, TX8, 7)) in_X8 (by decide) n787 rfl ?_
          refine gl_iload_n dX0_on_135 rfl ?_
          refine gl_iald (j := j) dX0_on_136 h5 rfl (by omega) ?_
          rw [k6 j hc]
          refine gl_ageP hX2 hL2 hc ec dX0_on_137 n452 ?_
          have hX3 := RL_card (w' := upd W2 (24 + j) (v (24 + j))) (d := .inr (.inr (2 + ix (W2 (3 + j)), cdO (nI j) (W2 (10 + j)) (W2 (17 + j)) (v (24 + j))))) hX2 h7 hc ec hOc2.2.1 (fun b hb => pk_un (by omega)) (fun i hi hn => ⟨pk_un (by omega), pk_un (by omega)⟩) (by rw [pk_us, pk_un (by omega)])
          have hL3 : Lb (upd W2 (24 + j) (v (24 + j))) n m u := by rw [ez2]; exact Lb_age hL2 (by omega) hz2
          rw [← es3] at hX3 hL3
          refine gl_iinc (v := (nI (j + 1))) dX0_on_140 rfl (nI_1 _) rfl rfl ?_
          refine gl_goto (tgt := 102) dX0_on_143 (by decide) ?_
          exact ih (j + 1) (by omega) _ h33 ho hX3 hL3 (fun k' tag c ht q => (H2 k' tag c ht q).put hOc2.2.1 (by omega))
      exact loop n 0 (by omega) o h33 ⟨rfl, rfl⟩ hX0 hL0 (fun _ _ _ _ q => q)
  · rw [if_neg (by simp [bI_fa h4])]
    refine gl_iconst (v := (-1)) dX0_on_7 (by decide) ?_
    exact gl_iret dX0_on_8 rfl (XR.same hV) (hc := by first | exact Nat.zero_le _ | (dsimp only [rm]; omega)) (hs := by first | exact Nat.zero_le _ | (dsimp only [rm]; omega))
end XO

