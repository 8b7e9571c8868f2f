/-! THE COMPONENT'S WORLD: its cells as one bundle; first methods -/
set_option maxRecDepth 100000
/-- int fields by number, long fields by number, int arrays by name, arrays of references by name, what is read -/
abbrev XY : Type := (Nat → Int32) × (Nat → Int64) × (Nat → Nat → Int32) × (Nat → Nat → Option Nat) × Option Nat
/-- next name, the script, the model's cells, the pool -/
abbrev OX : Type := Nat × (Nat × (Nat → Int32)) × List MC × (Nat → Option MC)
def xO (x : XY) : List Value := [.int (x.1 0), .ref 2, .int (x.1 2), .long (x.2.1 3), .long (x.2.1 4), .ref 3, .ref 4, .int (x.1 7), .ref 5, .int (x.1 9), .ref 6, .ref 7, .ref 8, va_rf x.2.2.2.2, .int (x.1 14), .int (x.1 15), .ref 9, .int (x.1 17), .ref 10, .int (x.1 19), .ref 11, .ref 12, .ref 13, .ref 14, .ref 15, .int (x.1 25), .int (x.1 26), .ref 16, .ref 17, .long (x.2.1 29)]
def xC (x : XY) : List MC := [.inr (.inr (0, xO x)), .inl (0, 6, x.2.2.1 2), .inr (.inl (0, 6, x.2.2.2.1 3)), .inr (.inl (1, 4, x.2.2.2.1 4)), .inr (.inl (2, 7, x.2.2.2.1 5)), .inl (0, 28, x.2.2.1 6), .inl (0, 7, x.2.2.1 7), .inl (0, 7, x.2.2.1 8), .inl (0, 28, x.2.2.1 9), .inl (0, 28, x.2.2.1 10), .inl (0, 40, x.2.2.1 11), .inl (0, 280, x.2.2.1 12), .inr (.inl (3, 3, x.2.2.2.1 13)), .inl (0, 7, x.2.2.1 14), .inl (0, 7, x.2.2.1 15), .inl (0, 49, x.2.2.1 16), .inl (0, 128, x.2.2.1 17)]
def mX (o : OX) (x : XY) : Mem := (o.1, o.2.1, xC x, o.2.2.1, o.2.2.2)
def tA (x : XY) (n : Nat) (f : Nat → Int32) : XY := (x.1, x.2.1, va_up x.2.2.1 n f, x.2.2.2.1, x.2.2.2.2)
def tI (x : XY) (n : Nat) (v : Int32) : XY := (va_up x.1 n v, x.2.1, x.2.2.1, x.2.2.2.1, x.2.2.2.2)
def tJ (x : XY) (n : Nat) (v : Int64) : XY := (x.1, va_up x.2.1 n v, x.2.2.1, x.2.2.2.1, x.2.2.2.2)
def tR (x : XY) (n : Nat) (r : Nat → Option Nat) : XY := (x.1, x.2.1, x.2.2.1, va_up x.2.2.2.1 n r, x.2.2.2.2)
def tB (x : XY) (r : Option Nat) : XY := (x.1, x.2.1, x.2.2.1, x.2.2.2.1, r)
section XF
variable (L : Nat) (o : OX) (x : XY)
theorem x_ask (v a : Int32) : Ct yX0_ask gX0_ask (L + 10) 0 0 [.ref 1, .int v, .int a] (mX o x) (Rt (some (.int a)) (mX o (tI x 2 v))) := by
  refine Ct.of rfl rfl rfl rfl rfl ?_
  refine gl_aload_n dX0_ask_0 rfl ?_
  refine gl_iload_n dX0_ask_1 rfl ?_
  refine gl_put (k := 2) dX0_ask_2 rfl (rfl : vwCl[0]? = some (RX0, TX0, 30)) in_X0 tyX0 tyX0_ok nmX0 (by decide) rfl q114 (fun _ _ => ⟨rfl, rfl⟩) rfl ?_
  refine gl_iload_n dX0_ask_5 rfl ?_
  exact gl_iret dX0_ask_6 rfl ⟨rfl, rfl⟩
def xfnd (x : XY) (f : Nat) : XY := tA (tI x 0 (nI f)) 2 (upd (x.2.2.1 2) f (x.2.2.1 2 f + 1))
theorem x_found (f : Nat) (hf : f < 6) : Ct yX0_found gX0_found (L + 10) 0 0 [.ref 1, .int (nI f)] (mX o x) (Rt (some (.int (-3))) (mX o (xfnd x f))) := by
  refine Ct.of rfl rfl rfl rfl rfl ?_
  refine gl_aload_n dX0_found_0 rfl ?_
  refine gl_iload_n dX0_found_1 rfl ?_
  refine gl_put (k := 0) dX0_found_2 rfl (rfl : vwCl[0]? = some (RX0, TX0, 30)) in_X0 tyX0 tyX0_ok nmX0 (by decide) rfl q112 (fun _ _ => ⟨rfl, rfl⟩) rfl ?_
  refine gl_mem (μ1 := mX o (tI x 0 (nI f))) rfl ?_
  refine gl_aload_n dX0_found_5 rfl ?_
  refine gl_get (k := 1) dX0_found_6 rfl (rfl : vwCl[0]? = some (RX0, TX0, 30)) in_X0 (by decide) q113 rfl ?_
  refine gl_iload_n dX0_found_9 rfl ?_
  refine gl_dup2 dX0_found_10 rfl rfl ?_
  refine gl_iald (j := f) dX0_found_11 rfl rfl (by omega) ?_
  refine gl_iconst (v := nI 1) dX0_found_12 (by decide) ?_
  refine gl_iadd dX0_found_13 ?_
  refine gl_iast (j := f) dX0_found_14 rfl rfl (by omega) ?_
  refine gl_bipush (v := (-3)) dX0_found_15 (by decide) ?_
  exact gl_iret dX0_found_17 rfl ⟨rfl, rfl⟩
theorem x_chances (a b : Int32) (hb : ¬ b = 0) : Ct yX0_chances gX0_chances (L + 10) 0 0 [.ref 1, .int a, .int b] (mX o x) (Rt (some (.int (nI 1))) (mX o (tJ (tJ x 3 (a / gcI a b).toInt64) 4 (b / gcI a b).toInt64))) := by
  refine Ct.of rfl rfl rfl rfl rfl ?_
  refine gl_iload_n dX0_chances_0 rfl ?_
  refine gl_istore_n dX0_chances_1 rfl rfl ?_
  refine gl_iload_n dX0_chances_2 rfl ?_
  refine gl_istore dX0_chances_3 rfl rfl ?_
  have key : ∀ (f : Nat) (u z : Int32), z.toInt.natAbs ≤ f → (∀ g, g = gcdI f u z → GL gX0_chances (rm (L + 10) 0 0) (Rt (some (.int (nI 1))) (mX o (tJ (tJ x 3 (a / gcI a b).toInt64) 4 (b / gcI a b).toInt64))) 0 0 26 [some (.ref 1), some (.int a), some (.int b), some (.int g), none, none] [] (mX o x)) → GL gX0_chances (rm (L + 10) 0 0) (Rt (some (.int (nI 1))) (mX o (tJ (tJ x 3 (a / gcI a b).toInt64) 4 (b / gcI a b).toInt64))) 0 0 5 [some (.ref 1), some (.int a), some (.int b), some (.int u), some (.int z), none] [] (mX o x) := by
    intro f
    induction f with
    | zero =>
      intro u z hz k
      refine gl_iload dX0_chances_5 rfl ?_
      refine gl_if_eq (tgt := 26) dX0_chances_7 (by decide) (fun _ => ?_) (fun h => absurd (i_abs (by omega)) h)
      refine gl_drop 4 ?_
      exact k u rfl
    | succ f ih =>
      intro u z hz k
      unfold gcdI at k
      refine gl_iload dX0_chances_5 rfl ?_
      refine gl_if_eq (tgt := 26) dX0_chances_7 (by decide) (fun h7 => ?_) (fun h7 => ?_)
      · rw [if_pos h7] at k
        refine gl_drop 4 ?_
        exact k u rfl
      · rw [if_neg h7] at k
        refine gl_iload_n dX0_chances_10 rfl ?_
        refine gl_iload dX0_chances_11 rfl ?_
        refine gl_irem dX0_chances_13 h7 ?_
        refine gl_istore dX0_chances_14 rfl rfl ?_
        refine gl_iload dX0_chances_16 rfl ?_
        refine gl_istore_n dX0_chances_18 rfl rfl ?_
        refine gl_iload dX0_chances_19 rfl ?_
        refine gl_istore dX0_chances_21 rfl rfl ?_
        refine gl_goto (tgt := 5) dX0_chances_23 (by decide) ?_
        refine gl_drop 5 ?_
        have := i_rem (x := u) h7
        exact ih z (u % z) (by omega) k
  refine key b.toInt.natAbs a b (Nat.le_refl _) ?_
  intro g hg
  have hg' : g = gcI a b := hg
  rw [← hg']
  have hn0 : ¬ g = 0 := by rw [hg]; exact gcd_ne _ _ _ (Nat.le_refl _) (Or.inr hb)
  refine gl_aload_n dX0_chances_26 rfl ?_
  refine gl_iload_n dX0_chances_27 rfl ?_
  refine gl_iload_n dX0_chances_28 rfl ?_
  refine gl_idiv dX0_chances_29 hn0 ?_
  refine gl_i2l dX0_chances_30 ?_
  refine gl_put (k := 3) dX0_chances_31 rfl (rfl : vwCl[0]? = some (RX0, TX0, 30)) in_X0 tyX0 tyX0_ok nmX0 (by decide) rfl q115 (fun _ _ => ⟨rfl, rfl⟩) rfl ?_
  refine gl_aload_n dX0_chances_34 rfl ?_
  refine gl_iload_n dX0_chances_35 rfl ?_
  refine gl_iload_n dX0_chances_36 rfl ?_
  refine gl_idiv dX0_chances_37 hn0 ?_
  refine gl_i2l dX0_chances_38 ?_
  refine gl_put (k := 4) dX0_chances_39 rfl (rfl : vwCl[0]? = some (RX0, TX0, 30)) in_X0 tyX0 tyX0_ok nmX0 (by decide) rfl q116 (fun _ _ => ⟨rfl, rfl⟩) rfl ?_
  refine gl_iconst (v := nI 1) dX0_chances_42 (by decide) ?_
  exact gl_iret dX0_chances_43 rfl ⟨rfl, rfl⟩
end XF

