/-! the component keeps a library -/
set_option maxRecDepth 100000
section KOs
variable {o o' : OX} {τ τ' : Nat → Nat} {x : XY} {n m t k p u u' : Nat} {a : Nat → Nat} {f : Nat → Nat → Int32}
/-- what is kept lies there -/
def KO (o : OX) (τ : Nat → Nat) (k p : Nat) (a : Nat → Nat) (u : Nat) (f : Nat → Nat → Int32) : Prop := Own o τ p (40 + k) (kpO u a) ∧ ∀ j, j < 6 → Own o τ (a j) (50 + 6 * k + j) (.inl (0, kpN j, f j))
/-- nothing else has changed -/
def KF (o : OX) (τ : Nat → Nat) (o' : OX) (τ' : Nat → Nat) (k : Nat) : Prop := ∀ k' tag c, (tag ≠ 40 + k ∧ ¬ (50 + 6 * k ≤ tag ∧ tag < 56 + 6 * k)) → Own o τ k' tag c → Own o' τ' k' tag c
theorem KO.p0 (h : KO o τ k p a u f) (hk : k < 3) (u' : Nat) : KO (oP o p (kpO u' a)) τ k p a u' f := ⟨h.1.puts, fun j hj => (h.2 j hj).put h.1.2.1 (by omega)⟩
theorem KO.pj (h : KO o τ k p a u f) (hk : k < 3) {j : Nat} (hj : j < 6) (g : Nat → Int32) : KO (oP o (a j) (.inl (0, kpN j, g))) τ k p a u (va_up f j g) := ⟨h.1.put (h.2 j hj).2.1 (by omega), fun i hi => by
  by_cases e : i = j
  · subst e
    rw [va_up_self]
    exact (h.2 i hi).puts
  · rw [va_up_ne _ _ e]
    exact (h.2 i hi).put (h.2 j hj).2.1 (by omega)⟩
theorem KF.p0 {o0 : OX} {τ0 : Nat → Nat} (H : KF o0 τ0 o τ k) (h : KO o τ k p a u f) (c : MC) : KF o0 τ0 (oP o p c) τ k := fun k' tag d ht q => (H k' tag d ht q).put h.1.2.1 (by omega)
theorem KF.pj {o0 : OX} {τ0 : Nat → Nat} (H : KF o0 τ0 o τ k) (h : KO o τ k p a u f) {j : Nat} (hj : j < 6) (c : MC) : KF o0 τ0 (oP o (a j) c) τ k := fun k' tag d ht q => (H k' tag d ht q).put (h.2 j hj).2.1 (by omega)
end KOs
theorem Lb_congr {v w : Nat → Int32} {n m t : Nat} (h : Lb w n m t) (e : ∀ a, a < 393 → v a = w a) : Lb v n m t := by
  have h7 := h.q7
  have h40 := h.t40
  refine h.to (fun a ha _ => e a (by omega)) ((e 2 (by omega)).trans h.tk) h40 (fun q hq => by rw [e _ (by omega)]; exact h.truth q hq) (Bv_eq h.by_ (fun q hq => e _ (by omega))) (fun j hj => Bv_eq (h.ahead j hj) (fun q hq => e _ (by omega)))
theorem kpF_congr {f : Nat → Nat → Int32} {v w : Nat → Int32} {n u : Nat} (h : kpF f w n u) (hn : n ≤ 7) (hu : u ≤ 40) (e : ∀ a, a < 393 → v a = w a) : kpF f v n u := ⟨fun i hi => by rw [e _ (by omega)]; exact h.1 i hi, fun i hi q hq => by rw [e _ (by omega)]; exact h.2.1 i hi q hq, fun q hq => by rw [e _ (by omega)]; exact h.2.2.1 q hq, fun q hq => by rw [e _ (by omega)]; exact h.2.2.2.1 q hq, fun c hc => by rw [e _ (by omega)]; exact h.2.2.2.2.1 c hc, fun c hc => by rw [e _ (by omega)]; exact h.2.2.2.2.2 c hc⟩
theorem kpR.v {o : OX} {τ : Nat → Nat} {k : Nat} {r : Option Nat} {fl : Int32} {v v' w : Nat → Int32} {n m : Nat} (h : kpR o τ k r fl v w n m) (e : ∀ a, a < 393 → v' a = v a) : kpR o τ k r fl v' w n m := by
  rcases h with h | ⟨p, a, u, f, h1, h2, h3, h4, h5, h6, h7⟩
  · exact Or.inl h
  · exact Or.inr ⟨p, a, u, f, h1, h2, h3, h4, Lb_congr h5 e, fun i hi => (e i (by have := hi.1; omega)).trans (h6 i hi), kpF_congr h7 h5.c7 h5.t40 e⟩
section XK
variable (L : Nat) {o : OX} {τ : Nat → Nat} {x : XY} {y : MY} {n m t : Nat}
abbrev kpD : List Value := [.int 0, .null, .null, .null, .null, .null, .null]
theorem x_kInit (h33 : 33 ≤ o.1) (k p : Nat) (hk : k < 3) (hO : Own o τ p (40 + k) (.inr (.inr (8, kpD)))) : Ct yX8_init gX8_init (L + 11) 6 348 [.ref p] (mX o x) (fun v μ => v = none ∧ ∃ (o' : OX) (τ' : Nat → Nat), μ = mX o' x ∧ 33 ≤ o'.1 ∧ (o'.2.1 = o.2.1 ∧ o'.2.2.1 = o.2.2.1) ∧ KO o' τ' k p (fun j => o.1 + j) 0 (fun _ _ => 0) ∧ KF o τ o' τ' k) := by
  refine Ct.of rfl rfl rfl rfl rfl ?_
  have hp := hO.1.1
  refine gl_aload_n dX8_init_0 rfl ?_
  refine gl_objInit dX8_init_1 q774 q102 q103 (by dsimp only [rm]; omega) (by dsimp only [rm, List.map, Value.category, List.sum, List.foldr]; omega) ?_
  refine gl_aload_n dX8_init_4 rfl ?_
  refine gl_bipush (v := nI 40) dX8_init_5 (by decide) ?_
  refine gl_newa (index := 0) (t := 0) (N := 40) dX8_init_7 rfl q204 rfl (by omega) (pok_hi h33) (by dsimp only [rm]; omega) (by dsimp only [rm]; omega) ?_
  refine gl_mem (psh_hi h33) ?_
  have q0 : Own (oN o (.inl (0, 40, fun _ => 0))) (va_up τ o.1 (50 + 6 * k + 0)) p (40 + k) (.inr (.inr (8, [.int 0, .null, .null, .null, .null, .null, .null]))) := hO.new
  refine gl_putF (k := 1) dX8_init_9 q0.lk (rfl : vwCl[8]? = some (RX8, TX8, 7)) in_X8 tyX8 tyX8_ok nmX8 (by decide) rfl rfl rfl q776 (fun _ _ => ⟨rfl, rfl⟩) rfl ?_
  refine gl_mem (μ1 := mX (oP (oN o (.inl (0, 40, fun _ => 0))) p (.inr (.inr (8, [.int 0, .ref o.1, .null, .null, .null, .null, .null])))) x) (up_hi hp) ?_
  have r0 : Own (oP (oN o (.inl (0, 40, fun _ => 0))) p (.inr (.inr (8, [.int 0, .ref o.1, .null, .null, .null, .null, .null])))) (va_up τ o.1 (50 + 6 * k + 0)) p (40 + k) (.inr (.inr (8, [.int 0, .ref o.1, .null, .null, .null, .null, .null]))) := q0.puts
  have z0 : Own (oP (oN o (.inl (0, 40, fun _ => 0))) p (.inr (.inr (8, [.int 0, .ref o.1, .null, .null, .null, .null, .null])))) (va_up τ o.1 (50 + 6 * k + 0)) o.1 (50 + 6 * k + 0) (.inl (0, 40, fun _ => 0)) := (Own.news h33).put q0.2.1 (by omega)
  have F1 : KF o τ (oP (oN o (.inl (0, 40, fun _ => 0))) p (.inr (.inr (8, [.int 0, .ref o.1, .null, .null, .null, .null, .null])))) (va_up τ o.1 (50 + 6 * k + 0)) k := fun k1 tag d ht w => Own.put (Own.new (w)) q0.2.1 (by omega)
  have e1 : (oP (oN o (.inl (0, 40, fun _ => 0))) p (.inr (.inr (8, [.int 0, .ref o.1, .null, .null, .null, .null, .null])))).1 = o.1 + 1 := rfl
  have g1 : (oP (oN o (.inl (0, 40, fun _ => 0))) p (.inr (.inr (8, [.int 0, .ref o.1, .null, .null, .null, .null, .null])))).2.1 = o.2.1 ∧ (oP (oN o (.inl (0, 40, fun _ => 0))) p (.inr (.inr (8, [.int 0, .ref o.1, .null, .null, .null, .null, .null])))).2.2.1 = o.2.2.1 := ⟨rfl, rfl⟩
  generalize va_up τ o.1 (50 + 6 * k + 0) = τ1 at r0 z0 F1
  generalize oP (oN o (.inl (0, 40, fun _ => 0))) p (.inr (.inr (8, [.int 0, .ref o.1, .null, .null, .null, .null, .null]))) = o1 at r0 z0 F1 e1 g1 ⊢
  have h33_1 : 33 ≤ o1.1 := by omega
  refine gl_aload_n dX8_init_12 rfl ?_
  refine gl_sipush (v := nI 280) dX8_init_13 (by decide) ?_
  refine gl_newa (index := 0) (t := 0) (N := 280) dX8_init_16 rfl q204 rfl (by omega) (pok_hi h33_1) (by dsimp only [rm]; omega) (by dsimp only [rm]; omega) ?_
  refine gl_mem (psh_hi h33_1) ?_
  have q1 : Own (oN o1 (.inl (0, 280, fun _ => 0))) (va_up τ1 o1.1 (50 + 6 * k + 1)) p (40 + k) (.inr (.inr (8, [.int 0, .ref o.1, .null, .null, .null, .null, .null]))) := r0.new
  refine gl_putF (k := 2) dX8_init_18 q1.lk (rfl : vwCl[8]? = some (RX8, TX8, 7)) in_X8 tyX8 tyX8_ok nmX8 (by decide) rfl rfl rfl q778 (fun _ _ => ⟨rfl, rfl⟩) rfl ?_
  refine gl_mem (μ1 := mX (oP (oN o1 (.inl (0, 280, fun _ => 0))) p (.inr (.inr (8, [.int 0, .ref o.1, .ref o1.1, .null, .null, .null, .null])))) x) (up_hi hp) ?_
  have r1 : Own (oP (oN o1 (.inl (0, 280, fun _ => 0))) p (.inr (.inr (8, [.int 0, .ref o.1, .ref o1.1, .null, .null, .null, .null])))) (va_up τ1 o1.1 (50 + 6 * k + 1)) p (40 + k) (.inr (.inr (8, [.int 0, .ref o.1, .ref o1.1, .null, .null, .null, .null]))) := q1.puts
  have z1 : Own (oP (oN o1 (.inl (0, 280, fun _ => 0))) p (.inr (.inr (8, [.int 0, .ref o.1, .ref o1.1, .null, .null, .null, .null])))) (va_up τ1 o1.1 (50 + 6 * k + 1)) o1.1 (50 + 6 * k + 1) (.inl (0, 280, fun _ => 0)) := (Own.news h33_1).put q1.2.1 (by omega)
  have y1_0 : Own (oP (oN o1 (.inl (0, 280, fun _ => 0))) p (.inr (.inr (8, [.int 0, .ref o.1, .ref o1.1, .null, .null, .null, .null])))) (va_up τ1 o1.1 (50 + 6 * k + 1)) o.1 (50 + 6 * k + 0) (.inl (0, 40, fun _ => 0)) := (Own.new z0).put q1.2.1 (by omega)
  have F2 : KF o τ (oP (oN o1 (.inl (0, 280, fun _ => 0))) p (.inr (.inr (8, [.int 0, .ref o.1, .ref o1.1, .null, .null, .null, .null])))) (va_up τ1 o1.1 (50 + 6 * k + 1)) k := fun k1 tag d ht w => Own.put (Own.new (F1 k1 tag d ht w)) q1.2.1 (by omega)
  have e2 : (oP (oN o1 (.inl (0, 280, fun _ => 0))) p (.inr (.inr (8, [.int 0, .ref o.1, .ref o1.1, .null, .null, .null, .null])))).1 = o.1 + 2 := congrArg (· + 1) e1
  have g2 : (oP (oN o1 (.inl (0, 280, fun _ => 0))) p (.inr (.inr (8, [.int 0, .ref o.1, .ref o1.1, .null, .null, .null, .null])))).2.1 = o.2.1 ∧ (oP (oN o1 (.inl (0, 280, fun _ => 0))) p (.inr (.inr (8, [.int 0, .ref o.1, .ref o1.1, .null, .null, .null, .null])))).2.2.1 = o.2.2.1 := g1
  generalize va_up τ1 o1.1 (50 + 6 * k + 1) = τ2 at r1 z1 y1_0 F2
  generalize oP (oN o1 (.inl (0, 280, fun _ => 0))) p (.inr (.inr (8, [.int 0, .ref o.1, .ref o1.1, .null, .null, .null, .null]))) = o2 at r1 z1 y1_0 F2 e2 g2 ⊢
  have h33_2 : 33 ≤ o2.1 := by omega
  refine gl_aload_n dX8_init_21 rfl ?_
  refine gl_bipush (v := nI 7) dX8_init_22 (by decide) ?_
  refine gl_newa (index := 0) (t := 0) (N := 7) dX8_init_24 rfl q204 rfl (by omega) (pok_hi h33_2) (by dsimp only [rm]; omega) (by dsimp only [rm]; omega) ?_
  refine gl_mem (psh_hi h33_2) ?_
  have q2 : Own (oN o2 (.inl (0, 7, fun _ => 0))) (va_up τ2 o2.1 (50 + 6 * k + 2)) p (40 + k) (.inr (.inr (8, [.int 0, .ref o.1, .ref o1.1, .null, .null, .null, .null]))) := r1.new
  refine gl_putF (k := 3) dX8_init_26 q2.lk (rfl : vwCl[8]? = some (RX8, TX8, 7)) in_X8 tyX8 tyX8_ok nmX8 (by decide) rfl rfl rfl q780 (fun _ _ => ⟨rfl, rfl⟩) rfl ?_
  refine gl_mem (μ1 := mX (oP (oN o2 (.inl (0, 7, fun _ => 0))) p (.inr (.inr (8, [.int 0, .ref o.1, .ref o1.1, .ref o2.1, .null, .null, .null])))) x) (up_hi hp) ?_
  have r2 : Own (oP (oN o2 (.inl (0, 7, fun _ => 0))) p (.inr (.inr (8, [.int 0, .ref o.1, .ref o1.1, .ref o2.1, .null, .null, .null])))) (va_up τ2 o2.1 (50 + 6 * k + 2)) p (40 + k) (.inr (.inr (8, [.int 0, .ref o.1, .ref o1.1, .ref o2.1, .null, .null, .null]))) := q2.puts
  have z2 : Own (oP (oN o2 (.inl (0, 7, fun _ => 0))) p (.inr (.inr (8, [.int 0, .ref o.1, .ref o1.1, .ref o2.1, .null, .null, .null])))) (va_up τ2 o2.1 (50 + 6 * k + 2)) o2.1 (50 + 6 * k + 2) (.inl (0, 7, fun _ => 0)) := (Own.news h33_2).put q2.2.1 (by omega)
  have y2_0 : Own (oP (oN o2 (.inl (0, 7, fun _ => 0))) p (.inr (.inr (8, [.int 0, .ref o.1, .ref o1.1, .ref o2.1, .null, .null, .null])))) (va_up τ2 o2.1 (50 + 6 * k + 2)) o.1 (50 + 6 * k + 0) (.inl (0, 40, fun _ => 0)) := (Own.new y1_0).put q2.2.1 (by omega)
  have y2_1 : Own (oP (oN o2 (.inl (0, 7, fun _ => 0))) p (.inr (.inr (8, [.int 0, .ref o.1, .ref o1.1, .ref o2.1, .null, .null, .null])))) (va_up τ2 o2.1 (50 + 6 * k + 2)) o1.1 (50 + 6 * k + 1) (.inl (0, 280, fun _ => 0)) := (Own.new z1).put q2.2.1 (by omega)
  have F3 : KF o τ (oP (oN o2 (.inl (0, 7, fun _ => 0))) p (.inr (.inr (8, [.int 0, .ref o.1, .ref o1.1, .ref o2.1, .null, .null, .null])))) (va_up τ2 o2.1 (50 + 6 * k + 2)) k := fun k1 tag d ht w => Own.put (Own.new (F2 k1 tag d ht w)) q2.2.1 (by omega)
  have e3 : (oP (oN o2 (.inl (0, 7, fun _ => 0))) p (.inr (.inr (8, [.int 0, .ref o.1, .ref o1.1, .ref o2.1, .null, .null, .null])))).1 = o.1 + 3 := congrArg (· + 1) e2
  have g3 : (oP (oN o2 (.inl (0, 7, fun _ => 0))) p (.inr (.inr (8, [.int 0, .ref o.1, .ref o1.1, .ref o2.1, .null, .null, .null])))).2.1 = o.2.1 ∧ (oP (oN o2 (.inl (0, 7, fun _ => 0))) p (.inr (.inr (8, [.int 0, .ref o.1, .ref o1.1, .ref o2.1, .null, .null, .null])))).2.2.1 = o.2.2.1 := g2
  generalize va_up τ2 o2.1 (50 + 6 * k + 2) = τ3 at r2 z2 y2_0 y2_1 F3
  generalize oP (oN o2 (.inl (0, 7, fun _ => 0))) p (.inr (.inr (8, [.int 0, .ref o.1, .ref o1.1, .ref o2.1, .null, .null, .null]))) = o3 at r2 z2 y2_0 y2_1 F3 e3 g3 ⊢
  have h33_3 : 33 ≤ o3.1 := by omega
  refine gl_aload_n dX8_init_29 rfl ?_
  refine gl_bipush (v := nI 7) dX8_init_30 (by decide) ?_
  refine gl_newa (index := 0) (t := 0) (N := 7) dX8_init_32 rfl q204 rfl (by omega) (pok_hi h33_3) (by dsimp only [rm]; omega) (by dsimp only [rm]; omega) ?_
  refine gl_mem (psh_hi h33_3) ?_
  have q3 : Own (oN o3 (.inl (0, 7, fun _ => 0))) (va_up τ3 o3.1 (50 + 6 * k + 3)) p (40 + k) (.inr (.inr (8, [.int 0, .ref o.1, .ref o1.1, .ref o2.1, .null, .null, .null]))) := r2.new
  refine gl_putF (k := 4) dX8_init_34 q3.lk (rfl : vwCl[8]? = some (RX8, TX8, 7)) in_X8 tyX8 tyX8_ok nmX8 (by decide) rfl rfl rfl q782 (fun _ _ => ⟨rfl, rfl⟩) rfl ?_
  refine gl_mem (μ1 := mX (oP (oN o3 (.inl (0, 7, fun _ => 0))) p (.inr (.inr (8, [.int 0, .ref o.1, .ref o1.1, .ref o2.1, .ref o3.1, .null, .null])))) x) (up_hi hp) ?_
  have r3 : Own (oP (oN o3 (.inl (0, 7, fun _ => 0))) p (.inr (.inr (8, [.int 0, .ref o.1, .ref o1.1, .ref o2.1, .ref o3.1, .null, .null])))) (va_up τ3 o3.1 (50 + 6 * k + 3)) p (40 + k) (.inr (.inr (8, [.int 0, .ref o.1, .ref o1.1, .ref o2.1, .ref o3.1, .null, .null]))) := q3.puts
  have z3 : Own (oP (oN o3 (.inl (0, 7, fun _ => 0))) p (.inr (.inr (8, [.int 0, .ref o.1, .ref o1.1, .ref o2.1, .ref o3.1, .null, .null])))) (va_up τ3 o3.1 (50 + 6 * k + 3)) o3.1 (50 + 6 * k + 3) (.inl (0, 7, fun _ => 0)) := (Own.news h33_3).put q3.2.1 (by omega)
  have y3_0 : Own (oP (oN o3 (.inl (0, 7, fun _ => 0))) p (.inr (.inr (8, [.int 0, .ref o.1, .ref o1.1, .ref o2.1, .ref o3.1, .null, .null])))) (va_up τ3 o3.1 (50 + 6 * k + 3)) o.1 (50 + 6 * k + 0) (.inl (0, 40, fun _ => 0)) := (Own.new y2_0).put q3.2.1 (by omega)
  have y3_1 : Own (oP (oN o3 (.inl (0, 7, fun _ => 0))) p (.inr (.inr (8, [.int 0, .ref o.1, .ref o1.1, .ref o2.1, .ref o3.1, .null, .null])))) (va_up τ3 o3.1 (50 + 6 * k + 3)) o1.1 (50 + 6 * k + 1) (.inl (0, 280, fun _ => 0)) := (Own.new y2_1).put q3.2.1 (by omega)
  have y3_2 : Own (oP (oN o3 (.inl (0, 7, fun _ => 0))) p (.inr (.inr (8, [.int 0, .ref o.1, .ref o1.1, .ref o2.1, .ref o3.1, .null, .null])))) (va_up τ3 o3.1 (50 + 6 * k + 3)) o2.1 (50 + 6 * k + 2) (.inl (0, 7, fun _ => 0)) := (Own.new z2).put q3.2.1 (by omega)
  have F4 : KF o τ (oP (oN o3 (.inl (0, 7, fun _ => 0))) p (.inr (.inr (8, [.int 0, .ref o.1, .ref o1.1, .ref o2.1, .ref o3.1, .null, .null])))) (va_up τ3 o3.1 (50 + 6 * k + 3)) k := fun k1 tag d ht w => Own.put (Own.new (F3 k1 tag d ht w)) q3.2.1 (by omega)
  have e4 : (oP (oN o3 (.inl (0, 7, fun _ => 0))) p (.inr (.inr (8, [.int 0, .ref o.1, .ref o1.1, .ref o2.1, .ref o3.1, .null, .null])))).1 = o.1 + 4 := congrArg (· + 1) e3
  have g4 : (oP (oN o3 (.inl (0, 7, fun _ => 0))) p (.inr (.inr (8, [.int 0, .ref o.1, .ref o1.1, .ref o2.1, .ref o3.1, .null, .null])))).2.1 = o.2.1 ∧ (oP (oN o3 (.inl (0, 7, fun _ => 0))) p (.inr (.inr (8, [.int 0, .ref o.1, .ref o1.1, .ref o2.1, .ref o3.1, .null, .null])))).2.2.1 = o.2.2.1 := g3
  generalize va_up τ3 o3.1 (50 + 6 * k + 3) = τ4 at r3 z3 y3_0 y3_1 y3_2 F4
  generalize oP (oN o3 (.inl (0, 7, fun _ => 0))) p (.inr (.inr (8, [.int 0, .ref o.1, .ref o1.1, .ref o2.1, .ref o3.1, .null, .null]))) = o4 at r3 z3 y3_0 y3_1 y3_2 F4 e4 g4 ⊢
  have h33_4 : 33 ≤ o4.1 := by omega
  refine gl_aload_n dX8_init_37 rfl ?_
  refine gl_bipush (v := nI 7) dX8_init_38 (by decide) ?_
  refine gl_newa (index := 0) (t := 0) (N := 7) dX8_init_40 rfl q204 rfl (by omega) (pok_hi h33_4) (by dsimp only [rm]; omega) (by dsimp only [rm]; omega) ?_
  refine gl_mem (psh_hi h33_4) ?_
  have q4 : Own (oN o4 (.inl (0, 7, fun _ => 0))) (va_up τ4 o4.1 (50 + 6 * k + 4)) p (40 + k) (.inr (.inr (8, [.int 0, .ref o.1, .ref o1.1, .ref o2.1, .ref o3.1, .null, .null]))) := r3.new
  refine gl_putF (k := 5) dX8_init_42 q4.lk (rfl : vwCl[8]? = some (RX8, TX8, 7)) in_X8 tyX8 tyX8_ok nmX8 (by decide) rfl rfl rfl q784 (fun _ _ => ⟨rfl, rfl⟩) rfl ?_
  refine gl_mem (μ1 := mX (oP (oN o4 (.inl (0, 7, fun _ => 0))) p (.inr (.inr (8, [.int 0, .ref o.1, .ref o1.1, .ref o2.1, .ref o3.1, .ref o4.1, .null])))) x) (up_hi hp) ?_
  have r4 : Own (oP (oN o4 (.inl (0, 7, fun _ => 0))) p (.inr (.inr (8, [.int 0, .ref o.1, .ref o1.1, .ref o2.1, .ref o3.1, .ref o4.1, .null])))) (va_up τ4 o4.1 (50 + 6 * k + 4)) p (40 + k) (.inr (.inr (8, [.int 0, .ref o.1, .ref o1.1, .ref o2.1, .ref o3.1, .ref o4.1, .null]))) := q4.puts
  have z4 : Own (oP (oN o4 (.inl (0, 7, fun _ => 0))) p (.inr (.inr (8, [.int 0, .ref o.1, .ref o1.1, .ref o2.1, .ref o3.1, .ref o4.1, .null])))) (va_up τ4 o4.1 (50 + 6 * k + 4)) o4.1 (50 + 6 * k + 4) (.inl (0, 7, fun _ => 0)) := (Own.news h33_4).put q4.2.1 (by omega)
  have y4_0 : Own (oP (oN o4 (.inl (0, 7, fun _ => 0))) p (.inr (.inr (8, [.int 0, .ref o.1, .ref o1.1, .ref o2.1, .ref o3.1, .ref o4.1, .null])))) (va_up τ4 o4.1 (50 + 6 * k + 4)) o.1 (50 + 6 * k + 0) (.inl (0, 40, fun _ => 0)) := (Own.new y3_0).put q4.2.1 (by omega)
  have y4_1 : Own (oP (oN o4 (.inl (0, 7, fun _ => 0))) p (.inr (.inr (8, [.int 0, .ref o.1, .ref o1.1, .ref o2.1, .ref o3.1, .ref o4.1, .null])))) (va_up τ4 o4.1 (50 + 6 * k + 4)) o1.1 (50 + 6 * k + 1) (.inl (0, 280, fun _ => 0)) := (Own.new y3_1).put q4.2.1 (by omega)
  have y4_2 : Own (oP (oN o4 (.inl (0, 7, fun _ => 0))) p (.inr (.inr (8, [.int 0, .ref o.1, .ref o1.1, .ref o2.1, .ref o3.1, .ref o4.1, .null])))) (va_up τ4 o4.1 (50 + 6 * k + 4)) o2.1 (50 + 6 * k + 2) (.inl (0, 7, fun _ => 0)) := (Own.new y3_2).put q4.2.1 (by omega)
  have y4_3 : Own (oP (oN o4 (.inl (0, 7, fun _ => 0))) p (.inr (.inr (8, [.int 0, .ref o.1, .ref o1.1, .ref o2.1, .ref o3.1, .ref o4.1, .null])))) (va_up τ4 o4.1 (50 + 6 * k + 4)) o3.1 (50 + 6 * k + 3) (.inl (0, 7, fun _ => 0)) := (Own.new z3).put q4.2.1 (by omega)
  have F5 : KF o τ (oP (oN o4 (.inl (0, 7, fun _ => 0))) p (.inr (.inr (8, [.int 0, .ref o.1, .ref o1.1, .ref o2.1, .ref o3.1, .ref o4.1, .null])))) (va_up τ4 o4.1 (50 + 6 * k + 4)) k := fun k1 tag d ht w => Own.put (Own.new (F4 k1 tag d ht w)) q4.2.1 (by omega)
  have e5 : (oP (oN o4 (.inl (0, 7, fun _ => 0))) p (.inr (.inr (8, [.int 0, .ref o.1, .ref o1.1, .ref o2.1, .ref o3.1, .ref o4.1, .null])))).1 = o.1 + 5 := congrArg (· + 1) e4
  have g5 : (oP (oN o4 (.inl (0, 7, fun _ => 0))) p (.inr (.inr (8, [.int 0, .ref o.1, .ref o1.1, .ref o2.1, .ref o3.1, .ref o4.1, .null])))).2.1 = o.2.1 ∧ (oP (oN o4 (.inl (0, 7, fun _ => 0))) p (.inr (.inr (8, [.int 0, .ref o.1, .ref o1.1, .ref o2.1, .ref o3.1, .ref o4.1, .null])))).2.2.1 = o.2.2.1 := g4
  generalize va_up τ4 o4.1 (50 + 6 * k + 4) = τ5 at r4 z4 y4_0 y4_1 y4_2 y4_3 F5
  generalize oP (oN o4 (.inl (0, 7, fun _ => 0))) p (.inr (.inr (8, [.int 0, .ref o.1, .ref o1.1, .ref o2.1, .ref o3.1, .ref o4.1, .null]))) = o5 at r4 z4 y4_0 y4_1 y4_2 y4_3 F5 e5 g5 ⊢
  have h33_5 : 33 ≤ o5.1 := by omega
  refine gl_aload_n dX8_init_45 rfl ?_
  refine gl_bipush (v := nI 7) dX8_init_46 (by decide) ?_
  refine gl_newa (index := 0) (t := 0) (N := 7) dX8_init_48 rfl q204 rfl (by omega) (pok_hi h33_5) (by dsimp only [rm]; omega) (by dsimp only [rm]; omega) ?_
  refine gl_mem (psh_hi h33_5) ?_
  have q5 : Own (oN o5 (.inl (0, 7, fun _ => 0))) (va_up τ5 o5.1 (50 + 6 * k + 5)) p (40 + k) (.inr (.inr (8, [.int 0, .ref o.1, .ref o1.1, .ref o2.1, .ref o3.1, .ref o4.1, .null]))) := r4.new
  refine gl_putF (k := 6) dX8_init_50 q5.lk (rfl : vwCl[8]? = some (RX8, TX8, 7)) in_X8 tyX8 tyX8_ok nmX8 (by decide) rfl rfl rfl q786 (fun _ _ => ⟨rfl, rfl⟩) rfl ?_
  refine gl_mem (μ1 := mX (oP (oN o5 (.inl (0, 7, fun _ => 0))) p (.inr (.inr (8, [.int 0, .ref o.1, .ref o1.1, .ref o2.1, .ref o3.1, .ref o4.1, .ref o5.1])))) x) (up_hi hp) ?_
  have r5 : Own (oP (oN o5 (.inl (0, 7, fun _ => 0))) p (.inr (.inr (8, [.int 0, .ref o.1, .ref o1.1, .ref o2.1, .ref o3.1, .ref o4.1, .ref o5.1])))) (va_up τ5 o5.1 (50 + 6 * k + 5)) p (40 + k) (.inr (.inr (8, [.int 0, .ref o.1, .ref o1.1, .ref o2.1, .ref o3.1, .ref o4.1, .ref o5.1]))) := q5.puts
  have z5 : Own (oP (oN o5 (.inl (0, 7, fun _ => 0))) p (.inr (.inr (8, [.int 0, .ref o.1, .ref o1.1, .ref o2.1, .ref o3.1, .ref o4.1, .ref o5.1])))) (va_up τ5 o5.1 (50 + 6 * k + 5)) o5.1 (50 + 6 * k + 5) (.inl (0, 7, fun _ => 0)) := (Own.news h33_5).put q5.2.1 (by omega)
  have y5_0 : Own (oP (oN o5 (.inl (0, 7, fun _ => 0))) p (.inr (.inr (8, [.int 0, .ref o.1, .ref o1.1, .ref o2.1, .ref o3.1, .ref o4.1, .ref o5.1])))) (va_up τ5 o5.1 (50 + 6 * k + 5)) o.1 (50 + 6 * k + 0) (.inl (0, 40, fun _ => 0)) := (Own.new y4_0).put q5.2.1 (by omega)
  have y5_1 : Own (oP (oN o5 (.inl (0, 7, fun _ => 0))) p (.inr (.inr (8, [.int 0, .ref o.1, .ref o1.1, .ref o2.1, .ref o3.1, .ref o4.1, .ref o5.1])))) (va_up τ5 o5.1 (50 + 6 * k + 5)) o1.1 (50 + 6 * k + 1) (.inl (0, 280, fun _ => 0)) := (Own.new y4_1).put q5.2.1 (by omega)
  have y5_2 : Own (oP (oN o5 (.inl (0, 7, fun _ => 0))) p (.inr (.inr (8, [.int 0, .ref o.1, .ref o1.1, .ref o2.1, .ref o3.1, .ref o4.1, .ref o5.1])))) (va_up τ5 o5.1 (50 + 6 * k + 5)) o2.1 (50 + 6 * k + 2) (.inl (0, 7, fun _ => 0)) := (Own.new y4_2).put q5.2.1 (by omega)
  have y5_3 : Own (oP (oN o5 (.inl (0, 7, fun _ => 0))) p (.inr (.inr (8, [.int 0, .ref o.1, .ref o1.1, .ref o2.1, .ref o3.1, .ref o4.1, .ref o5.1])))) (va_up τ5 o5.1 (50 + 6 * k + 5)) o3.1 (50 + 6 * k + 3) (.inl (0, 7, fun _ => 0)) := (Own.new y4_3).put q5.2.1 (by omega)
  have y5_4 : Own (oP (oN o5 (.inl (0, 7, fun _ => 0))) p (.inr (.inr (8, [.int 0, .ref o.1, .ref o1.1, .ref o2.1, .ref o3.1, .ref o4.1, .ref o5.1])))) (va_up τ5 o5.1 (50 + 6 * k + 5)) o4.1 (50 + 6 * k + 4) (.inl (0, 7, fun _ => 0)) := (Own.new z4).put q5.2.1 (by omega)
  have F6 : KF o τ (oP (oN o5 (.inl (0, 7, fun _ => 0))) p (.inr (.inr (8, [.int 0, .ref o.1, .ref o1.1, .ref o2.1, .ref o3.1, .ref o4.1, .ref o5.1])))) (va_up τ5 o5.1 (50 + 6 * k + 5)) k := fun k1 tag d ht w => Own.put (Own.new (F5 k1 tag d ht w)) q5.2.1 (by omega)
  have e6 : (oP (oN o5 (.inl (0, 7, fun _ => 0))) p (.inr (.inr (8, [.int 0, .ref o.1, .ref o1.1, .ref o2.1, .ref o3.1, .ref o4.1, .ref o5.1])))).1 = o.1 + 6 := congrArg (· + 1) e5
  have g6 : (oP (oN o5 (.inl (0, 7, fun _ => 0))) p (.inr (.inr (8, [.int 0, .ref o.1, .ref o1.1, .ref o2.1, .ref o3.1, .ref o4.1, .ref o5.1])))).2.1 = o.2.1 ∧ (oP (oN o5 (.inl (0, 7, fun _ => 0))) p (.inr (.inr (8, [.int 0, .ref o.1, .ref o1.1, .ref o2.1, .ref o3.1, .ref o4.1, .ref o5.1])))).2.2.1 = o.2.2.1 := g5
  generalize va_up τ5 o5.1 (50 + 6 * k + 5) = τ6 at r5 z5 y5_0 y5_1 y5_2 y5_3 y5_4 F6
  generalize oP (oN o5 (.inl (0, 7, fun _ => 0))) p (.inr (.inr (8, [.int 0, .ref o.1, .ref o1.1, .ref o2.1, .ref o3.1, .ref o4.1, .ref o5.1]))) = o6 at r5 z5 y5_0 y5_1 y5_2 y5_3 y5_4 F6 e6 g6 ⊢
  have h33_6 : 33 ≤ o6.1 := by omega
  rw [e1, e2, e3, e4, e5] at r5
  rw [e1] at y5_1
  rw [e2] at y5_2
  rw [e3] at y5_3
  rw [e4] at y5_4
  rw [e5] at z5
  exact gl_vret dX8_init_53 rfl ⟨rfl, o6, τ6, rfl, h33_6, g6, ⟨r5, fun j hj => by match j, hj with | 0, _ => exact y5_0 | 1, _ => exact y5_1 | 2, _ => exact y5_2 | 3, _ => exact y5_3 | 4, _ => exact y5_4 | 5, _ => exact z5⟩, F6⟩ (hc := by first | exact Nat.zero_le _ | (dsimp only [rm]; omega)) (hs := by first | exact Nat.zero_le _ | (dsimp only [rm]; omega))
end XK

