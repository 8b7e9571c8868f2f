/-! THE COMPONENT REPRESENTS A LIBRARY -/
set_option maxRecDepth 100000
/-- name k is in the pool, owned by tag, and holds c -/
def Own (o : OX) (τ : Nat → Nat) (k tag : Nat) (c : MC) : Prop := (33 ≤ k ∧ k < o.1) ∧ τ k = tag ∧ o.2.2.2 k = some c
theorem lk_hi {o : OX} {x : XY} {k : Nat} (h : 33 ≤ k) : lk (mX o x) k = o.2.2.2 k := by
  obtain ⟨j, rfl⟩ : ∃ j, k = j + 1 := ⟨k - 1, by omega⟩
  simp only [lk]
  rw [if_neg (by omega), if_neg (by omega)]
  rfl
theorem Own.lk {o : OX} {x : XY} {τ : Nat → Nat} {k tag : Nat} {c : MC} (h : Own o τ k tag c) : lk (mX o x) k = some c := (lk_hi h.1.1).trans h.2.2
def oP (o : OX) (k : Nat) (c : MC) : OX := (o.1, o.2.1, o.2.2.1, va_up o.2.2.2 k (some c))
def oN (o : OX) (c : MC) : OX := (o.1 + 1, o.2.1, o.2.2.1, va_up o.2.2.2 o.1 (some c))
theorem up_hi {o : OX} {x : XY} {k : Nat} {c : MC} (h : 33 ≤ k) : up (mX o x) k c = mX (oP o k c) x := by
  obtain ⟨j, rfl⟩ : ∃ j, k = j + 1 := ⟨k - 1, by omega⟩
  simp only [up]
  rw [if_neg (by omega), if_neg (by omega)]
  rfl
theorem psh_hi {o : OX} {x : XY} {c : MC} (h : 33 ≤ o.1) : psh (mX o x) c = mX (oN o c) x := by
  unfold psh
  rw [if_neg (show ¬ (mX o x).1 ≤ 17 from by show ¬ o.1 ≤ 17; omega), if_neg (show ¬ (mX o x).1 ≤ 32 from by show ¬ o.1 ≤ 32; omega)]
  rfl
/-- a row or a text -/
def rowR (o : OX) (τ : Nat → Nat) (tag ty N : Nat) (r : Option Nat) (sz : Int32) (g : Nat → Int32) : Prop := (r = none ∧ sz = -1) ∨ ∃ k s f, r = some k ∧ Own o τ k tag (.inl (ty, s, f)) ∧ sz = nI s ∧ s ≤ N ∧ ∀ i, i < s → f i = g i
/-- a card -/
def crdR (o : OX) (τ : Nat → Nat) (w : Nat → Int32) (r : Option Nat) (c : Nat) : Prop := ∃ k, r = some k ∧ Own o τ k (30 + c) (.inr (.inr (2 + ix (w (3 + c)), cdO (nI c) (w (10 + c)) (w (17 + c)) (w (24 + c)))))
/-- the library that the component has -/
def RL (o : OX) (τ : Nat → Nat) (x : XY) (w : Nat → Int32) (n m t : Nat) : Prop :=
  (x.1 7 = nI n ∧ x.1 9 = nI m ∧ x.1 19 = nI t) ∧ (∀ c, c < n → crdR o τ w (x.2.2.2.1 5 c) c) ∧ (∀ q, q < m → ∀ j, j < 4 → x.2.2.1 6 (4 * q + j) = w (31 + 7 * j + q)) ∧ (∀ q, q < 7 → x.2.2.1 7 q = w (59 + q)) ∧ (∀ q, q < 7 → x.2.2.1 8 q = w (66 + q)) ∧ (∀ k, k < t → x.2.2.1 11 k = w (73 + k)) ∧ ∀ j, j < t → ∀ q, q < 7 → x.2.2.1 12 (7 * j + q) = w (113 + 7 * j + q)
section RLu
variable {o : OX} {τ : Nat → Nat} {x : XY} {w : Nat → Int32} {n m t : Nat}
theorem RL.many (h : RL o τ x w n m t) : x.1 7 = nI n := h.1.1
theorem RL.askMany (h : RL o τ x w n m t) : x.1 9 = nI m := h.1.2.1
theorem RL.takingMany (h : RL o τ x w n m t) : x.1 19 = nI t := h.1.2.2
theorem RL.card (h : RL o τ x w n m t) : ∀ c, c < n → crdR o τ w (x.2.2.2.1 5 c) c := h.2.1
theorem RL.ask (h : RL o τ x w n m t) : ∀ q, q < m → ∀ j, j < 4 → x.2.2.1 6 (4 * q + j) = w (31 + 7 * j + q) := h.2.2.1
theorem RL.truth (h : RL o τ x w n m t) : ∀ q, q < 7 → x.2.2.1 7 q = w (59 + q) := h.2.2.2.1
theorem RL.by_ (h : RL o τ x w n m t) : ∀ q, q < 7 → x.2.2.1 8 q = w (66 + q) := h.2.2.2.2.1
theorem RL.taking (h : RL o τ x w n m t) : ∀ k, k < t → x.2.2.1 11 k = w (73 + k) := h.2.2.2.2.2.1
theorem RL.ahead (h : RL o τ x w n m t) : ∀ j, j < t → ∀ q, q < 7 → x.2.2.1 12 (7 * j + q) = w (113 + 7 * j + q) := h.2.2.2.2.2.2
end RLu
section XR
variable (L : Nat) (o : OX) (x : XY) {τ : Nat → Nat} {w : Nat → Int32} {n m t : Nat}
theorem x_isCard (hX : RL o τ x w n m t) (v : Int32) : Ct yX0_isCard gX0_isCard (L + 11) 0 0 [.ref 1, .int v] (mX o x) (Rt (some (.int (bI (inR v 0 (nI n - 1))))) (mX o x)) := by
  refine Ct.of rfl rfl rfl rfl rfl ?_
  refine gl_iload_n dX0_isCard_0 rfl ?_
  refine gl_iconst (v := nI 0) dX0_isCard_1 (by decide) ?_
  refine gl_aload_n dX0_isCard_2 rfl ?_
  refine gl_get (k := 7) dX0_isCard_3 rfl (rfl : vwCl[0]? = some (RX0, TX0, 30)) in_X0 (by decide) q119 rfl ?_
  refine gl_iconst (v := nI 1) dX0_isCard_6 (by decide) ?_
  refine gl_isub dX0_isCard_7 ?_
  rw [hX.many]
  refine gl_callS (x_isIn L _ _ _ _) dX0_isCard_8 q298 q299 q74 q300 rfl hX0_isIn rfl rfl (rmOk (by omega) rfl) ⟨by first | exact Nat.le_refl _ | exact Nat.zero_le _ | decide | (dsimp only [rm]; omega), by first | exact Nat.le_refl _ | exact Nat.zero_le _ | decide | (dsimp only [rm]; omega)⟩ (rt1 ?_)
  exact gl_zret dX0_isCard_11 rfl (bI_1 _) ⟨rfl, rfl⟩
theorem x_isQuestion (hX : RL o τ x w n m t) (v : Int32) : Ct yX0_isQuestion gX0_isQuestion (L + 11) 0 0 [.ref 1, .int v] (mX o x) (Rt (some (.int (bI (inR v 0 (nI m - 1))))) (mX o x)) := by
  refine Ct.of rfl rfl rfl rfl rfl ?_
  refine gl_iload_n dX0_isQuestion_0 rfl ?_
  refine gl_iconst (v := nI 0) dX0_isQuestion_1 (by decide) ?_
  refine gl_aload_n dX0_isQuestion_2 rfl ?_
  refine gl_get (k := 9) dX0_isQuestion_3 rfl (rfl : vwCl[0]? = some (RX0, TX0, 30)) in_X0 (by decide) q122 rfl ?_
  refine gl_iconst (v := nI 1) dX0_isQuestion_6 (by decide) ?_
  refine gl_isub dX0_isQuestion_7 ?_
  rw [hX.askMany]
  refine gl_callS (x_isIn L _ _ _ _) dX0_isQuestion_8 q298 q299 q74 q300 rfl hX0_isIn rfl rfl (rmOk (by omega) rfl) ⟨by first | exact Nat.le_refl _ | exact Nat.zero_le _ | decide | (dsimp only [rm]; omega), by first | exact Nat.le_refl _ | exact Nat.zero_le _ | decide | (dsimp only [rm]; omega)⟩ (rt1 ?_)
  exact gl_zret dX0_isQuestion_11 rfl (bI_1 _) ⟨rfl, rfl⟩
theorem x_askOf (hX : RL o τ x w n m t) (q j : Nat) (hq : q < m) (h7 : m ≤ 7) (hj : j < 4) : Ct yX0_askOf gX0_askOf (L + 10) 0 0 [.ref 1, .int (nI q), .int (nI j)] (mX o x) (Rt (some (.int (w (31 + 7 * j + q)))) (mX o x)) := by
  refine Ct.of rfl rfl rfl rfl rfl ?_
  refine gl_aload_n dX0_askOf_0 rfl ?_
  refine gl_get (k := 10) dX0_askOf_1 rfl (rfl : vwCl[0]? = some (RX0, TX0, 30)) in_X0 (by decide) q123 rfl ?_
  refine gl_iconst (v := nI 4) dX0_askOf_4 (by decide) ?_
  refine gl_iload_n dX0_askOf_5 rfl ?_
  refine gl_imul dX0_askOf_6 ?_
  refine gl_iload_n dX0_askOf_7 rfl ?_
  refine gl_iadd dX0_askOf_8 ?_
  refine gl_iald (j := ((4 * q) + j)) dX0_askOf_9 rfl (by simp only [nI_add, nI_mul]) (by omega) ?_
  rw [hX.ask q hq j hj]
  exact gl_iret dX0_askOf_10 rfl ⟨rfl, rfl⟩
end XR

