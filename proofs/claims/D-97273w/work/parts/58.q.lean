/-! the component's library changed: truths, takings, shelves, ages -/
set_option maxRecDepth 100000
section LBs
variable {w v : Nat → Int32} {n m t q c k : Nat}
theorem Lb_truth (h : Lb w n m t) (hq : q < 7) {z : Int32} (hz : z = -9 ∨ ∃ k, k ≤ 9 ∧ z = nI k) : Lb (upd w (59 + q) z) n m t :=
  h.to (fun a ha _ => pk_un (by omega)) (by rw [pk_un (by omega)]; exact h.tk) h.t40 (fun p hp => by
    by_cases e : p = q
    · rw [e, pk_us]; exact hz
    · rw [pk_un (by omega)]; exact h.truth p hp) (Bv_eq h.by_ (fun k hk => by have := h.q7; exact pk_un (by omega))) (fun j hj => Bv_eq (h.ahead j hj) (fun k hk => by have := h.q7; exact pk_un (by omega)))
theorem Lb_bring (h : Lb w n m t) (hq : q < m) : Lb (upd w (66 + q) (-9)) n m t := by
  have h7 := h.q7
  refine h.to (fun a ha _ => pk_un (by omega)) (by rw [pk_un (by omega)]; exact h.tk) h.t40 (fun p hp => by rw [pk_un (by omega)]; exact h.truth p hp) ?_ (fun j hj => Bv_eq (h.ahead j hj) (fun k hk => pk_un (by omega)))
  refine ⟨fun p hp => ?_, fun p r hp hr h1 h2 => ?_⟩
  · show upd w (66 + q) (-9) (66 + p) = -9 ∨ ∃ c, c < n ∧ upd w (66 + q) (-9) (66 + p) = nI c
    by_cases e : p = q
    · rw [e, pk_us]; exact Or.inl rfl
    · rw [pk_un (by omega)]; exact h.by_.1 p hp
  · have h1' : ¬ upd w (66 + q) (-9) (66 + p) = -9 := h1
    have h2' : upd w (66 + q) (-9) (66 + p) = upd w (66 + q) (-9) (66 + r) := h2
    have e1 : p ≠ q := fun e => h1' (by rw [e, pk_us])
    have e2 : r ≠ q := fun e => h1' (by rw [h2', e, pk_us])
    rw [pk_un (by omega)] at h1' h2'
    rw [pk_un (by omega)] at h2'
    exact h.by_.2 p r hp hr h1' h2'
theorem Lb_undo (h : Lb w n m t) (hk : k ≤ t) : Lb (unS w k t) n m k := by
  have h7 := h.q7
  have h40 := h.t40
  unfold unS
  refine h.to (fun a ha h2 => ?_) pk_us (by omega) (fun p hp => ?_) ?_ (fun j hj => Bv_eq (h.ahead j (by omega)) (fun p hp => ?_))
  · rw [pk_un h2]
    by_cases e : k < t
    · rw [if_pos e, pk_cpy_out (by omega)]
    · rw [if_neg e]
  · rw [pk_un (by omega)]
    by_cases e : k < t
    · rw [if_pos e, pk_cpy_out (by omega)]; exact h.truth p hp
    · rw [if_neg e]; exact h.truth p hp
  · by_cases e : k < t
    · refine Bv_eq (h.ahead k e) (fun p hp => ?_)
      show upd _ 2 _ (66 + p) = _
      rw [pk_un (by omega), if_pos e, pk_cpy_in (by omega) (by omega)]
      congr 1
      omega
    · refine Bv_eq h.by_ (fun p hp => ?_)
      show upd _ 2 _ (66 + p) = _
      rw [pk_un (by omega), if_neg e]
  · show upd _ 2 _ (113 + 7 * j + p) = _
    rw [pk_un (by omega)]
    by_cases e : k < t
    · rw [if_pos e, pk_cpy_out (by omega)]
    · rw [if_neg e]
theorem rg_upd {a b i : Nat} (h : rg w a b) {p : Nat} {z : Nat} (hz : a ≤ p → p < a + 7 → z ≤ b) : rg (upd w p (nI z)) a b := fun c hc => by
  by_cases e : a + c = p
  · rw [e, pk_us]; exact ⟨z, hz (by omega) (by omega), rfl⟩
  · rw [pk_un e]; exact h c hc
theorem Lb_shelf (h : Lb w n m t) (hc : c < 7) {z : Nat} (hz : z ≤ 3) : Lb (upd w (17 + c) (nI z)) n m t := by
  have h7 := h.q7
  have e : ∀ a, a < 17 ∨ 24 ≤ a → upd w (17 + c) (nI z) a = w a := fun a ha => pk_un (by omega)
  exact ⟨⟨by rw [e 0 (by omega)]; exact h.1.1, h.1.2⟩, ⟨by rw [e 1 (by omega)]; exact h.2.1.1, h.2.1.2⟩, ⟨by rw [e 2 (by omega)]; exact h.2.2.1.1, h.2.2.1.2⟩, rg_upd (i := 0) h.kind (by omega), rg_upd (i := 0) h.says (by omega), rg_upd (i := 0) h.shelf (fun _ _ => hz), rg_upd (i := 0) h.age (by omega), rg_upd (i := 0) h.asks (by omega), rg_upd (i := 0) h.from_ (by omega), rg_upd (i := 0) h.to_ (by omega), rg_upd (i := 0) h.wish (by omega), fun q hq => by rw [e _ (by omega)]; exact h.truth q hq, Bv_eq h.by_ (fun k hk => e _ (by omega)), fun j hj => Bv_eq (h.ahead j hj) (fun k hk => e _ (by omega))⟩
theorem Lb_age (h : Lb w n m t) (hc : c < 7) {z : Nat} (hz : z ≤ 9) : Lb (upd w (24 + c) (nI z)) n m t := by
  have h7 := h.q7
  have e : ∀ a, a < 24 ∨ 31 ≤ a → upd w (24 + c) (nI z) a = w a := fun a ha => pk_un (by omega)
  exact ⟨⟨by rw [e 0 (by omega)]; exact h.1.1, h.1.2⟩, ⟨by rw [e 1 (by omega)]; exact h.2.1.1, h.2.1.2⟩, ⟨by rw [e 2 (by omega)]; exact h.2.2.1.1, h.2.2.1.2⟩, rg_upd (i := 0) h.kind (by omega), rg_upd (i := 0) h.says (by omega), rg_upd (i := 0) h.shelf (by omega), rg_upd (i := 0) h.age (fun _ _ => hz), rg_upd (i := 0) h.asks (by omega), rg_upd (i := 0) h.from_ (by omega), rg_upd (i := 0) h.to_ (by omega), rg_upd (i := 0) h.wish (by omega), fun q hq => by rw [e _ (by omega)]; exact h.truth q hq, Bv_eq h.by_ (fun k hk => e _ (by omega)), fun j hj => Bv_eq (h.ahead j hj) (fun k hk => e _ (by omega))⟩
end LBs
theorem unS_lo {w : Nat → Int32} {k t a : Nat} (ha : a < 66) (h2 : a ≠ 2) : unS w k t a = w a := by
  unfold unS
  rw [pk_un h2]
  by_cases e : k < t
  · rw [if_pos e, pk_cpy_out (by omega)]
  · rw [if_neg e]
theorem unS_hi {w : Nat → Int32} {k t a : Nat} (ha : 73 ≤ a) : unS w k t a = w a := by
  unfold unS
  rw [pk_un (by omega)]
  by_cases e : k < t
  · rw [if_pos e, pk_cpy_out (by omega)]
  · rw [if_neg e]
theorem unS_by {w : Nat → Int32} {k t p : Nat} (h : k < t) (hp : p < 7) : unS w k t (66 + p) = w (113 + 7 * k + p) := by
  unfold unS
  rw [pk_un (by omega), if_pos h, pk_cpy_in (by omega) (by omega)]
  congr 1
  omega
theorem unS_same {w : Nat → Int32} {k : Nat} (h : w 2 = nI k) (a : Nat) : unS w k k a = w a := by
  unfold unS
  rw [if_neg (Nat.lt_irrefl k)]
  simp only [upd]
  by_cases e : a = 2
  · rw [if_pos e, e, h]
  · rw [if_neg e]
section LXs
variable {o o' : OX} {τ τ' : Nat → Nat} {x x' : XY} {y : MY} {w w' : Nat → Int32} {n m t t' q c k : Nat}
theorem RV.lib (h : RV o τ x y n m t) (h33 : 33 ≤ o'.1) (H : ∀ k tag c, tag < 30 ∨ 40 ≤ tag → Own o τ k tag c → Own o' τ' k tag c) (hn7 : n ≤ 7) (hX : RL o' τ' x' w' n m t') (hL : Lb w' n m t') (hf : ∀ i, fxA i → w' i = y.2.2 23 i) (e3 : x'.2.2.2.1 3 = x.2.2.2.1 3 ∧ x'.2.2.2.1 4 = x.2.2.2.1 4 ∧ x'.2.2.2.1 13 = x.2.2.2.1 13) (ea : x'.1 2 = x.1 2 ∧ x'.1 0 = x.1 0 ∧ x'.2.2.1 2 = x.2.2.1 2 ∧ x'.2.1 3 = x.2.1 3 ∧ x'.2.1 4 = x.2.1 4) : RV o' τ' x' (sA y 23 w') n m t' := by
  refine ⟨h33, hX, hL, fun r hr => ?_, fun r hr => ?_, fun k hk => ?_, ?_⟩
  · show rowR o' τ' r 0 40 (x'.2.2.2.1 3 r) (y.2.2 19 r) _
    rw [e3.1]
    exact (h.row r hr).tr (fun k c => H k _ c (by omega))
  · show rowR o' τ' (10 + r) 1 80 (x'.2.2.2.1 4 r) (y.2.2 21 r) _
    rw [e3.2.1]
    exact (h.text r hr).tr (fun k c => H k _ c (by omega))
  · show kpR o' τ' k (x'.2.2.2.1 13 k) (y.2.2 25 k) _ w' n m
    rw [e3.2.2]
    exact ((h.kept k hk).tr (fun k tag c _ => H k tag c (by omega))).lib hf
  · obtain ⟨a1, a2, a3, a4, a5⟩ := ea
    obtain ⟨b1, b2, b3, b4, b5⟩ := h.vis
    exact ⟨a1.trans b1, a2.trans b2, fun f hf => by rw [a3]; exact b3 f hf, a4.trans b4, a5.trans b5⟩
theorem crd_w {r : Option Nat} (h : crdR o τ w r c) (hc : c < 7) (e : ∀ a, 3 ≤ a → a < 31 → w' a = w a) : crdR o τ w' r c := by
  obtain ⟨k, h1, h2⟩ := h
  refine ⟨k, h1, ?_⟩
  rw [e (3 + c) (by omega) (by omega), e (10 + c) (by omega) (by omega), e (17 + c) (by omega) (by omega), e (24 + c) (by omega) (by omega)]
  exact h2
/-- a taking -/
def tkX (x : XY) (t q c : Nat) : XY := tA (tI (tA (tA x 12 (va_cpy (x.2.2.1 8) (x.2.2.1 12) 0 (7 * t) 7)) 11 (upd (x.2.2.1 11) t (nI (10 * q + c)))) 19 (nI (t + 1))) 8 (upd (x.2.2.1 8) q (nI c))
theorem RL_tk (hX : RL o τ x w n m t) (hL : Lb w n m t) (ht : t < 40) (hq : q < m) : RL o τ (tkX x t q c) (tkS w t q c) n m (t + 1) := by
  have h7 := hL.c7
  have h7q := hL.q7
  refine ⟨⟨hX.many, hX.askMany, rfl⟩, fun d hd => crd_w (hX.card d hd) (by omega) (fun a _ _ => tkS_low (by omega) (by omega)), fun p hp j hj => ?_, fun p hp => ?_, fun p hp => ?_, fun k hk => ?_, fun j hj p hp => ?_⟩
  · exact (hX.ask p hp j hj).trans (tkS_low (by omega) (by omega)).symm
  · exact (hX.truth p hp).trans (tkS_low (by omega) (by omega)).symm
  · show upd (x.2.2.1 8) q (nI c) p = tkS w t q c (66 + p)
    unfold tkS
    rw [pk_un (show 66 + p ≠ 2 by omega)]
    by_cases e : p = q
    · rw [e, pk_us, pk_us]
    · rw [pk_un e, pk_un (by omega), pk_un (by omega), pk_cpy_out (by omega)]
      exact hX.by_ p hp
  · show upd (x.2.2.1 11) t (nI (10 * q + c)) k = tkS w t q c (73 + k)
    unfold tkS
    rw [pk_un (show 73 + k ≠ 2 by omega), pk_un (show 73 + k ≠ 66 + q by omega)]
    by_cases e : k = t
    · rw [e, pk_us, pk_us]
    · rw [pk_un e, pk_un (by omega), pk_cpy_out (by omega)]
      exact hX.taking k (by omega)
  · show va_cpy (x.2.2.1 8) (x.2.2.1 12) 0 (7 * t) 7 (7 * j + p) = tkS w t q c (113 + 7 * j + p)
    unfold tkS
    rw [pk_un (by omega), pk_un (by omega), pk_un (by omega)]
    by_cases e : j = t
    · rw [e, pk_cpy_in (by omega) (by omega), pk_cpy_in (by omega) (by omega), show 0 + (7 * t + p - 7 * t) = p by omega, show 66 + (113 + 7 * t + p - (113 + 7 * t)) = 66 + p by omega]
      exact hX.by_ p hp
    · rw [pk_cpy_out (by omega), pk_cpy_out (by omega)]
      exact hX.ahead j (by omega) p hp
theorem RV.tk (h : RV o τ x y n m t) (ht : t < 40) (hq : q < m) (hc : c < n) (hf : frC (y.2.2 23) m c = true) : RV o τ (tkX x t q c) (sA y 23 (tkS (y.2.2 23) t q c)) n m (t + 1) :=
  h.lib h.h33 (fun _ _ _ _ z => z) h.lb.c7 (RL_tk h.rl h.lb ht hq) (Lb_tkS h.lb ht hq hc hf) (fun i hi => tkS_low (by have := hi.1; omega) hi.2.1) ⟨rfl, rfl, rfl⟩ ⟨rfl, rfl, rfl, rfl, rfl⟩
end LXs
section XL
variable (L : Nat) {o : OX} {τ : Nat → Nat} {x : XY} {y : MY} {n m t : Nat}
theorem x_takeTruly {w : Nat → Int32} (hX : RL o τ x w n m t) (hL : Lb w n m t) (ht : t < 40) (q c : Nat) (hq : q < m) (hc : c < n) (hf : frC w m c = true) : Ct yX0_takeTruly gX0_takeTruly (L + 16) 0 0 [.ref 1, .int (nI q), .int (nI c)] (mX o x) (Rt (some (.int (stB (tkS w t q c) q))) (mX o (tkX x t q c))) := by
  refine Ct.of rfl rfl rfl rfl rfl ?_
  have h7 := hL.c7
  have h7q := hL.q7
  refine gl_aload_n dX0_takeTruly_0 rfl ?_
  refine gl_get (k := 12) dX0_takeTruly_1 rfl (rfl : vwCl[0]? = some (RX0, TX0, 30)) in_X0 (by decide) q125 rfl ?_
  refine gl_iconst (v := nI 0) dX0_takeTruly_4 (by decide) ?_
  refine gl_aload_n dX0_takeTruly_5 rfl ?_
  refine gl_get (k := 21) dX0_takeTruly_6 rfl (rfl : vwCl[0]? = some (RX0, TX0, 30)) in_X0 (by decide) q134 rfl ?_
  refine gl_bipush (v := nI 7) dX0_takeTruly_9 (by decide) ?_
  refine gl_aload_n dX0_takeTruly_11 rfl ?_
  refine gl_get (k := 19) dX0_takeTruly_12 rfl (rfl : vwCl[0]? = some (RX0, TX0, 30)) in_X0 (by decide) q132 rfl ?_
  rw [hX.takingMany]
  refine gl_imul dX0_takeTruly_15 ?_
  rw [nI_mul]
  refine gl_bipush (v := nI 7) dX0_takeTruly_16 (by decide) ?_
  refine gl_copy (n0 := 8) (n1 := 12) (sp := 0) (dp := 7 * t) (k := 7) dX0_takeTruly_18 q371 rfl rfl rfl rfl rfl (by omega) (by omega) (by omega) (by omega) rfl (copyR (by omega)) ?_
  refine gl_mem (μ1 := mX o (tA x 12 (va_cpy (x.2.2.1 8) (x.2.2.1 12) 0 (7 * t) 7))) rfl ?_
  refine gl_aload_n dX0_takeTruly_21 rfl ?_
  refine gl_get (k := 20) dX0_takeTruly_22 rfl (rfl : vwCl[0]? = some (RX0, TX0, 30)) in_X0 (by decide) q133 rfl ?_
  refine gl_aload_n dX0_takeTruly_25 rfl ?_
  refine gl_get (k := 19) dX0_takeTruly_26 rfl (rfl : vwCl[0]? = some (RX0, TX0, 30)) in_X0 (by decide) q132 rfl ?_
  refine gl_mem rfl ?_
  rw [show (tA x 12 (va_cpy (x.2.2.1 8) (x.2.2.1 12) 0 (7 * t) 7)).1 19 = nI t from hX.takingMany]
  refine gl_bipush (v := nI 10) dX0_takeTruly_29 (by decide) ?_
  refine gl_iload_n dX0_takeTruly_31 rfl ?_
  refine gl_imul dX0_takeTruly_32 ?_
  refine gl_iload_n dX0_takeTruly_33 rfl ?_
  refine gl_iadd dX0_takeTruly_34 ?_
  rw [nI_mul, nI_add]
  refine gl_iast (j := t) dX0_takeTruly_35 rfl rfl (by omega) ?_
  refine gl_aload_n dX0_takeTruly_36 rfl ?_
  refine gl_dup dX0_takeTruly_37 rfl ?_
  refine gl_get (k := 19) dX0_takeTruly_38 rfl (rfl : vwCl[0]? = some (RX0, TX0, 30)) in_X0 (by decide) q132 rfl ?_
  refine gl_top (w := .int (nI t)) (congrArg Value.int hX.takingMany) ?_
  refine gl_iconst (v := nI 1) dX0_takeTruly_41 (by decide) ?_
  refine gl_iadd dX0_takeTruly_42 ?_
  rw [nI_add]
  refine gl_put (k := 19) dX0_takeTruly_43 rfl (rfl : vwCl[0]? = some (RX0, TX0, 30)) in_X0 tyX0 tyX0_ok nmX0 (by decide) rfl q132 (fun _ _ => ⟨rfl, rfl⟩) rfl ?_
  refine gl_aload_n dX0_takeTruly_46 rfl ?_
  refine gl_get (k := 12) dX0_takeTruly_47 rfl (rfl : vwCl[0]? = some (RX0, TX0, 30)) in_X0 (by decide) q125 rfl ?_
  refine gl_iload_n dX0_takeTruly_50 rfl ?_
  refine gl_iload_n dX0_takeTruly_51 rfl ?_
  refine gl_iast (j := q) dX0_takeTruly_52 rfl rfl (by omega) ?_
  refine gl_aload_n dX0_takeTruly_53 rfl ?_
  refine gl_iload_n dX0_takeTruly_54 rfl ?_
  refine gl_mem (μ1 := mX o (tkX x t q c)) rfl ?_
  refine gl_callV (x_isRight L o (tkX x t q c) (RL_tk hX hL ht hq) (Lb_tkS hL ht hq hc hf) q c hq hc tkS_by) dX0_takeTruly_55 q743 q745 qs23 q74 q746 rfl hX0_isRight rfl (rfl : vwCl[0]? = some (RX0, TX0, 30)) rfl rfl (rmOk (by omega) rfl) ⟨by first | exact Nat.le_refl _ | exact Nat.zero_le _ | decide | (dsimp only [rm]; omega), by first | exact Nat.le_refl _ | exact Nat.zero_le _ | decide | (dsimp only [rm]; omega)⟩ (rt1 ?_)
  exact gl_iret dX0_takeTruly_58 rfl ⟨rfl, rfl⟩ (hc := by first | exact Nat.zero_le _ | (dsimp only [rm]; omega)) (hs := by first | exact Nat.zero_le _ | (dsimp only [rm]; omega))
theorem x_take (hV : RV o τ x y n m t) (q c : Int32) : Ct yX0_take gX0_take (L + 18) 0 0 [.ref 1, .int q, .int c] (mX o x) (XR o (sp_take y m t q c)) := by
  refine Ct.of rfl rfl rfl rfl rfl ?_
  have h7 := hV.lb.c7
  have h7q := hV.lb.q7
  have h40 := hV.lb.t40
  unfold sp_take
  rw [hV.lb.q, hV.lb.c]
  refine gl_aload_n dX0_take_0 rfl ?_
  refine gl_iload_n dX0_take_1 rfl ?_
  refine gl_callV (x_isQuestion L o x hV.rl _) dX0_take_2 q592 q594 qs12 q74 q595 rfl hX0_isQuestion rfl (rfl : vwCl[0]? = some (RX0, TX0, 30)) rfl rfl (rmOk (by omega) rfl) ⟨by first | exact Nat.le_refl _ | exact Nat.zero_le _ | decide | (dsimp only [rm]; omega), by first | exact Nat.le_refl _ | exact Nat.zero_le _ | decide | (dsimp only [rm]; omega)⟩ (rt1 ?_)
  refine gl_if_eq (tgt := 16) dX0_take_5 (by decide) (fun h5 => ?_) (fun h5 => ?_)
  · rw [if_neg (by simp [bI_fa h5])]
    refine gl_iconst (v := (-1)) dX0_take_16 (by decide) ?_
    exact gl_iret dX0_take_17 rfl (XR.same hV) (hc := by first | exact Nat.zero_le _ | (dsimp only [rm]; omega)) (hs := by first | exact Nat.zero_le _ | (dsimp only [rm]; omega))
  · have hq := bI_tr h5
    refine gl_aload_n dX0_take_8 rfl ?_
    refine gl_iload_n dX0_take_9 rfl ?_
    refine gl_callV (x_isCard L o x hV.rl _) dX0_take_10 q517 q519 qs9 q74 q520 rfl hX0_isCard rfl (rfl : vwCl[0]? = some (RX0, TX0, 30)) rfl rfl (rmOk (by omega) rfl) ⟨by first | exact Nat.le_refl _ | exact Nat.zero_le _ | decide | (dsimp only [rm]; omega), by first | exact Nat.le_refl _ | exact Nat.zero_le _ | decide | (dsimp only [rm]; omega)⟩ (rt1 ?_)
    refine gl_if_ne (tgt := 18) dX0_take_13 (by decide) (fun h13 => ?_) (fun h13 => ?_)
    · have hc := bI_tr h13
      rw [if_pos (by rw [hq, hc]; rfl)]
      obtain ⟨q, hq', rfl⟩ := inR_n (by omega) hq
      obtain ⟨c, hc', rfl⟩ := inR_n (by omega) hc
      clear hq hc
      have hq := hq'
      have hc := hc'
      rw [ix_nI (show q < 100 by omega), ix_nI (show c < 100 by omega)]
      refine gl_aload_n dX0_take_18 rfl ?_
      refine gl_iload_n dX0_take_19 rfl ?_
      refine gl_iload_n dX0_take_20 rfl ?_
      refine gl_callV (x_mayTake L o x hV.rl hV.lb q c hq hc) dX0_take_21 q735 q737 qs21 q74 q738 rfl hX0_mayTake rfl (rfl : vwCl[0]? = some (RX0, TX0, 30)) rfl rfl (rmOk (by omega) rfl) ⟨by first | exact Nat.le_refl _ | exact Nat.zero_le _ | decide | (dsimp only [rm]; omega), by first | exact Nat.le_refl _ | exact Nat.zero_le _ | decide | (dsimp only [rm]; omega)⟩ (rt1 ?_)
      refine gl_if_ne (tgt := 30) dX0_take_24 (by decide) (fun h24 => ?_) (fun h24 => ?_)
      · have hm := bI_tr h24
        rw [if_pos hm]
        refine gl_aload_n dX0_take_30 rfl ?_
        refine gl_get (k := 19) dX0_take_31 rfl (rfl : vwCl[0]? = some (RX0, TX0, 30)) in_X0 (by decide) q132 rfl ?_
        rw [hV.rl.takingMany]
        refine gl_bipush (v := nI 40) dX0_take_34 (by decide) ?_
        refine gl_icmp_ne (tgt := 44) dX0_take_36 (by decide) (fun h36 => ?_) (fun h36 => ?_)
        · have e : ¬ t = 40 := fun z => h36 (by rw [z])
          rw [if_neg e]
          have hf : frC (y.2.2 23) m c = true := by revert hm; cases frC (y.2.2 23) m c <;> simp
          refine gl_aload_n dX0_take_44 rfl ?_
          refine gl_iload_n dX0_take_45 rfl ?_
          refine gl_iload_n dX0_take_46 rfl ?_
          refine gl_callV (x_takeTruly L hV.rl hV.lb (by omega) q c hq hc hf) dX0_take_47 q739 q741 qs22 q74 q742 rfl hX0_takeTruly rfl (rfl : vwCl[0]? = some (RX0, TX0, 30)) rfl rfl (rmOk (by omega) rfl) ⟨by first | exact Nat.le_refl _ | exact Nat.zero_le _ | decide | (dsimp only [rm]; omega), by first | exact Nat.le_refl _ | exact Nat.zero_le _ | decide | (dsimp only [rm]; omega)⟩ (rt1 ?_)
          exact gl_iret dX0_take_50 rfl ⟨rfl, o, tkX x t q c, τ, n, m, t + 1, rfl, ⟨rfl, rfl⟩, hV.tk (by omega) hq hc hf⟩ (hc := by first | exact Nat.zero_le _ | (dsimp only [rm]; omega)) (hs := by first | exact Nat.zero_le _ | (dsimp only [rm]; omega))
        · have e : t = 40 := (nI_eq (by omega) (by omega)).mp h36
          rw [if_pos e]
          refine gl_bipush (v := (-2)) dX0_take_39 (by decide) ?_
          refine gl_goto (tgt := 50) dX0_take_41 (by decide) ?_
          exact gl_iret dX0_take_50 rfl (XR.same hV) (hc := by first | exact Nat.zero_le _ | (dsimp only [rm]; omega)) (hs := by first | exact Nat.zero_le _ | (dsimp only [rm]; omega))
      · rw [if_neg (by simp [bI_fa h24])]
        refine gl_bipush (v := (-4)) dX0_take_27 (by decide) ?_
        exact gl_iret dX0_take_29 rfl (XR.same hV) (hc := by first | exact Nat.zero_le _ | (dsimp only [rm]; omega)) (hs := by first | exact Nat.zero_le _ | (dsimp only [rm]; omega))
    · rw [if_neg (by simp [bI_fa h13])]
      refine gl_iconst (v := (-1)) dX0_take_16 (by decide) ?_
      exact gl_iret dX0_take_17 rfl (XR.same hV) (hc := by first | exact Nat.zero_le _ | (dsimp only [rm]; omega)) (hs := by first | exact Nat.zero_le _ | (dsimp only [rm]; omega))
theorem x_bring (hV : RV o τ x y n m t) (q : Int32) : Ct yX0_bring gX0_bring (L + 13) 0 0 [.ref 1, .int q] (mX o x) (XR o (sp_bring y q)) := by
  refine Ct.of rfl rfl rfl rfl rfl ?_
  have h7q := hV.lb.q7
  have hX := hV.rl
  unfold sp_bring
  rw [hV.lb.q]
  refine gl_aload_n dX0_bring_0 rfl ?_
  refine gl_iload_n dX0_bring_1 rfl ?_
  refine gl_callV (x_isQuestion L o x hV.rl _) dX0_bring_2 q592 q594 qs12 q74 q595 rfl hX0_isQuestion rfl (rfl : vwCl[0]? = some (RX0, TX0, 30)) rfl rfl (rmOk (by omega) rfl) ⟨by first | exact Nat.le_refl _ | exact Nat.zero_le _ | decide | (dsimp only [rm]; omega), by first | exact Nat.le_refl _ | exact Nat.zero_le _ | decide | (dsimp only [rm]; omega)⟩ (rt1 ?_)
  refine gl_if_ne (tgt := 10) dX0_bring_5 (by decide) (fun h5 => ?_) (fun h5 => ?_)
  · have hr := bI_tr h5
    rw [if_pos hr]
    obtain ⟨q, hq, rfl⟩ := inR_n (by omega) hr
    rw [ix_nI (show q < 100 by omega)]
    have eb := hX.by_ q (by omega)
    refine gl_aload_n dX0_bring_10 rfl ?_
    refine gl_get (k := 12) dX0_bring_11 rfl (rfl : vwCl[0]? = some (RX0, TX0, 30)) in_X0 (by decide) q125 rfl ?_
    refine gl_iload_n dX0_bring_14 rfl ?_
    refine gl_iald (j := q) dX0_bring_15 rfl rfl (by omega) ?_
    refine gl_bipush (v := (-9)) dX0_bring_16 (by decide) ?_
    rw [eb]
    refine gl_icmp_ne (tgt := 24) dX0_bring_18 (by decide) (fun h18 => ?_) (fun h18 => ?_)
    · rw [if_neg (by simp [frQ, h18])]
      refine gl_aload_n dX0_bring_24 rfl ?_
      refine gl_get (k := 12) dX0_bring_25 rfl (rfl : vwCl[0]? = some (RX0, TX0, 30)) in_X0 (by decide) q125 rfl ?_
      refine gl_iload_n dX0_bring_28 rfl ?_
      refine gl_iald (j := q) dX0_bring_29 rfl rfl (by omega) ?_
      refine gl_istore_n dX0_bring_30 rfl rfl ?_
      refine gl_aload_n dX0_bring_31 rfl ?_
      refine gl_get (k := 12) dX0_bring_32 rfl (rfl : vwCl[0]? = some (RX0, TX0, 30)) in_X0 (by decide) q125 rfl ?_
      refine gl_iload_n dX0_bring_35 rfl ?_
      refine gl_bipush (v := (-9)) dX0_bring_36 (by decide) ?_
      refine gl_iast (j := q) dX0_bring_38 rfl rfl (by omega) ?_
      refine gl_mem (μ1 := mX o (tA x 8 (upd (x.2.2.1 8) q (-9)))) rfl ?_
      rw [eb]
      refine gl_iload_n dX0_bring_39 rfl ?_
      exact gl_iret dX0_bring_40 rfl ⟨rfl, o, tA x 8 (upd (x.2.2.1 8) q (-9)), τ, n, m, t, rfl, ⟨rfl, rfl⟩, hV.lib hV.h33 (fun _ _ _ _ z => z) hV.lb.c7 ⟨hX.1, fun d hd => crd_w (hX.card d hd) (by have := hV.lb.c7; omega) (fun a _ _ => pk_un (by omega)), fun p hp j hj => (hX.ask p hp j hj).trans (pk_un (by omega)).symm, fun p hp => (hX.truth p hp).trans (pk_un (by omega)).symm, fun p hp => by show upd (x.2.2.1 8) q (-9) p = upd (y.2.2 23) (66 + q) (-9) (66 + p); simp only [upd]; by_cases e : p = q <;> simp [e, hX.by_ p hp], fun k hk => (hX.taking k hk).trans (pk_un (by omega)).symm, fun j hj p hp => (hX.ahead j hj p hp).trans (pk_un (by omega)).symm⟩ (Lb_bring hV.lb hq) (fun i hi => pk_un (by have := hi.1; omega)) ⟨rfl, rfl, rfl⟩ ⟨rfl, rfl, rfl, rfl, rfl⟩⟩ (hc := by first | exact Nat.zero_le _ | (dsimp only [rm]; omega)) (hs := by first | exact Nat.zero_le _ | (dsimp only [rm]; omega))
    · rw [if_pos (by simp [frQ, h18])]
      refine gl_bipush (v := (-4)) dX0_bring_21 (by decide) ?_
      exact gl_iret dX0_bring_23 rfl (XR.same hV) (hc := by first | exact Nat.zero_le _ | (dsimp only [rm]; omega)) (hs := by first | exact Nat.zero_le _ | (dsimp only [rm]; omega))
  · rw [if_neg (by simp [bI_fa h5])]
    refine gl_iconst (v := (-1)) dX0_bring_8 (by decide) ?_
    exact gl_iret dX0_bring_9 rfl (XR.same hV) (hc := by first | exact Nat.zero_le _ | (dsimp only [rm]; omega)) (hs := by first | exact Nat.zero_le _ | (dsimp only [rm]; omega))
theorem x_undo (hV : RV o τ x y n m t) (k : Int32) : Ct yX0_undo gX0_undo (L + 13) 0 0 [.ref 1, .int k] (mX o x) (XR o (sp_undo y t k)) := by
  refine Ct.of rfl rfl rfl rfl rfl ?_
  have h7q := hV.lb.q7
  have h40 := hV.lb.t40
  have hX := hV.rl
  have hL := hV.lb
  unfold sp_undo
  rw [hV.lb.tk]
  refine gl_iload_n dX0_undo_0 rfl ?_
  refine gl_iconst (v := nI 0) dX0_undo_1 (by decide) ?_
  refine gl_aload_n dX0_undo_2 rfl ?_
  refine gl_get (k := 19) dX0_undo_3 rfl (rfl : vwCl[0]? = some (RX0, TX0, 30)) in_X0 (by decide) q132 rfl ?_
  rw [hX.takingMany]
  refine gl_callS (x_isIn L _ _ _ _) dX0_undo_6 q298 q299 q74 q300 rfl hX0_isIn rfl rfl (rmOk (by omega) rfl) ⟨by first | exact Nat.le_refl _ | exact Nat.zero_le _ | decide | (dsimp only [rm]; omega), by first | exact Nat.le_refl _ | exact Nat.zero_le _ | decide | (dsimp only [rm]; omega)⟩ (rt1 ?_)
  refine gl_if_ne (tgt := 14) dX0_undo_9 (by decide) (fun h9 => ?_) (fun h9 => ?_)
  · have hr : inR k 0 (nI t) = true := bI_tr h9
    rw [if_pos hr]
    obtain ⟨k, -, hk, rfl⟩ := inR_nat (a := 0) (by omega) (by omega) hr
    rw [ix_nI (show k < 100 by omega), nI_sub hk]
    refine gl_aload_n dX0_undo_14 rfl ?_
    refine gl_get (k := 19) dX0_undo_15 rfl (rfl : vwCl[0]? = some (RX0, TX0, 30)) in_X0 (by decide) q132 rfl ?_
    rw [hX.takingMany]
    refine gl_iload_n dX0_undo_18 rfl ?_
    refine gl_isub dX0_undo_19 ?_
    rw [nI_sub hk]
    refine gl_istore_n dX0_undo_20 rfl rfl ?_
    refine gl_iload_n dX0_undo_21 rfl ?_
    by_cases hkt : k < t
    · refine gl_if_le (tgt := 48) dX0_undo_22 (by decide) (fun h => absurd h (nI_nle (by omega) (by omega))) (fun _ => ?_)
      refine gl_aload_n dX0_undo_25 rfl ?_
      refine gl_get (k := 21) dX0_undo_26 rfl (rfl : vwCl[0]? = some (RX0, TX0, 30)) in_X0 (by decide) q134 rfl ?_
      refine gl_bipush (v := nI 7) dX0_undo_29 (by decide) ?_
      refine gl_iload_n dX0_undo_31 rfl ?_
      refine gl_imul dX0_undo_32 ?_
      refine gl_aload_n dX0_undo_33 rfl ?_
      refine gl_get (k := 12) dX0_undo_34 rfl (rfl : vwCl[0]? = some (RX0, TX0, 30)) in_X0 (by decide) q125 rfl ?_
      refine gl_iconst (v := nI 0) dX0_undo_37 (by decide) ?_
      refine gl_bipush (v := nI 7) dX0_undo_38 (by decide) ?_
      rw [nI_mul]
      refine gl_copy (n0 := 12) (n1 := 8) (sp := 7 * k) (dp := 0) (k := 7) dX0_undo_40 q371 rfl rfl rfl rfl rfl (by omega) (by omega) (by omega) (by omega) rfl (copyR (by omega)) ?_
      refine gl_mem (μ1 := mX o (tA x 8 (va_cpy (x.2.2.1 12) (x.2.2.1 8) (7 * k) 0 7))) rfl ?_
      refine gl_aload_n dX0_undo_43 rfl ?_
      refine gl_iload_n dX0_undo_44 rfl ?_
      refine gl_put (k := 19) dX0_undo_45 rfl (rfl : vwCl[0]? = some (RX0, TX0, 30)) in_X0 tyX0 tyX0_ok nmX0 (by decide) rfl q132 (fun _ _ => ⟨rfl, rfl⟩) rfl ?_
      refine gl_mem (μ1 := mX o (tI (tA x 8 (va_cpy (x.2.2.1 12) (x.2.2.1 8) (7 * k) 0 7)) 19 (nI k))) rfl ?_
      refine gl_iload_n dX0_undo_48 rfl ?_
      exact gl_iret dX0_undo_49 rfl ⟨rfl, o, tI (tA x 8 (va_cpy (x.2.2.1 12) (x.2.2.1 8) (7 * k) 0 7)) 19 (nI k), τ, n, m, k, rfl, ⟨rfl, rfl⟩, hV.lib hV.h33 (fun _ _ _ _ z => z) hV.lb.c7 ⟨⟨hX.many, hX.askMany, rfl⟩, fun d hd => crd_w (hX.card d hd) (by have := hV.lb.c7; omega) (fun a _ _ => unS_lo (by omega) (by omega)), fun p hp j hj => (hX.ask p hp j hj).trans (unS_lo (by omega) (by omega)).symm, fun p hp => (hX.truth p hp).trans (unS_lo (by omega) (by omega)).symm, fun p hp => by show va_cpy (x.2.2.1 12) (x.2.2.1 8) (7 * k) 0 7 p = unS (y.2.2 23) k t (66 + p); rw [unS_by hkt hp, pk_cpy_in (by omega) (by omega), Nat.sub_zero]; exact hX.ahead k hkt p hp, fun i hi => (hX.taking i (by omega)).trans (unS_hi (by omega)).symm, fun j hj p hp => (hX.ahead j (by omega) p hp).trans (unS_hi (by omega)).symm⟩ (Lb_undo hL hk) (fun i hi => unS_lo (by have := hi.1; omega) hi.2.1) ⟨rfl, rfl, rfl⟩ ⟨rfl, rfl, rfl, rfl, rfl⟩⟩ (hc := by first | exact Nat.zero_le _ | (dsimp only [rm]; omega)) (hs := by first | exact Nat.zero_le _ | (dsimp only [rm]; omega))
    · have e : k = t := by omega
      subst e
      refine gl_if_le (tgt := 48) dX0_undo_22 (by decide) (fun _ => ?_) (fun h => absurd ((by rw [Nat.sub_self]; exact (by decide : nI 0 ≤ 0))) h)
      refine gl_iload_n dX0_undo_48 rfl ?_
      exact gl_iret dX0_undo_49 rfl ⟨rfl, o, x, τ, n, m, k, rfl, ⟨rfl, rfl⟩, hV.lib hV.h33 (fun _ _ _ _ z => z) hV.lb.c7 ⟨hX.1, fun d hd => crd_w (hX.card d hd) (by have := hV.lb.c7; omega) (fun a _ _ => unS_same hL.tk a), fun p hp j hj => (hX.ask p hp j hj).trans (unS_same hL.tk _).symm, fun p hp => (hX.truth p hp).trans (unS_same hL.tk _).symm, fun p hp => (hX.by_ p hp).trans (unS_same hL.tk _).symm, fun i hi => (hX.taking i hi).trans (unS_same hL.tk _).symm, fun j hj p hp => (hX.ahead j hj p hp).trans (unS_same hL.tk _).symm⟩ (Lb_undo hL hk) (fun i hi => unS_same hL.tk _) ⟨rfl, rfl, rfl⟩ ⟨rfl, rfl, rfl, rfl, rfl⟩⟩ (hc := by first | exact Nat.zero_le _ | (dsimp only [rm]; omega)) (hs := by first | exact Nat.zero_le _ | (dsimp only [rm]; omega))
  · rw [if_neg (by have z : inR k 0 (nI t) = false := bI_fa h9; simp [z])]
    refine gl_iconst (v := (-1)) dX0_undo_12 (by decide) ?_
    exact gl_iret dX0_undo_13 rfl (XR.same hV) (hc := by first | exact Nat.zero_le _ | (dsimp only [rm]; omega)) (hs := by first | exact Nat.zero_le _ | (dsimp only [rm]; omega))
end XL

