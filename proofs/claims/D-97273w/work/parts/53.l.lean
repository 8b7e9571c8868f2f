/-! THE COMPONENT REPRESENTS THE MODEL'S WORLD: rows, texts, what is kept, what is told; frames -/
set_option maxRecDepth 100000
/-- what never changes between two readings of a text -/
def fxA (a : Nat) : Prop := a < 59 ∧ a ≠ 2 ∧ ¬ (17 ≤ a ∧ a < 31)
def kpN : Nat → Nat
  | 0 => 40
  | 1 => 280
  | _ => 7
def kpO (u : Nat) (a : Nat → Nat) : MC := .inr (.inr (8, [.int (nI u), .ref (a 0), .ref (a 1), .ref (a 2), .ref (a 3), .ref (a 4), .ref (a 5)]))
/-- what is kept: f its six arrays, v the model's -/
def kpF (f : Nat → Nat → Int32) (v : Nat → Int32) (n u : Nat) : Prop := (∀ i, i < u → f 0 i = v (73 + i)) ∧ (∀ i, i < u → ∀ q, q < 7 → f 1 (7 * i + q) = v (113 + 7 * i + q)) ∧ (∀ q, q < 7 → f 2 q = v (66 + q)) ∧ (∀ q, q < 7 → f 3 q = v (59 + q)) ∧ (∀ c, c < n → f 4 c = v (17 + c)) ∧ ∀ c, c < n → f 5 c = v (24 + c)
def kpR (o : OX) (τ : Nat → Nat) (k : Nat) (r : Option Nat) (fl : Int32) (v w : Nat → Int32) (n m : Nat) : Prop :=
  (r = none ∧ fl = 0) ∨ ∃ (p : Nat) (a : Nat → Nat) (u : Nat) (f : Nat → Nat → Int32), r = some p ∧ ¬ fl = 0 ∧ Own o τ p (40 + k) (kpO u a) ∧ (∀ j, j < 6 → Own o τ (a j) (50 + 6 * k + j) (.inl (0, kpN j, f j))) ∧ Lb v n m u ∧ (∀ i, fxA i → v i = w i) ∧ kpF f v n u
def RVr (o : OX) (τ : Nat → Nat) (x : XY) (y : MY) : Prop := ∀ r, r < 6 → rowR o τ r 0 40 (x.2.2.2.1 3 r) (y.2.2 19 r) (fun i => y.2.2 20 (40 * r + i))
def RVt (o : OX) (τ : Nat → Nat) (x : XY) (y : MY) : Prop := ∀ r, r < 4 → rowR o τ (10 + r) 1 80 (x.2.2.2.1 4 r) (y.2.2 21 r) (fun i => y.2.2 22 (80 * r + i))
def RVk (o : OX) (τ : Nat → Nat) (x : XY) (y : MY) (n m : Nat) : Prop := ∀ k, k < 3 → kpR o τ k (x.2.2.2.1 13 k) (y.2.2 25 k) (fun a => y.2.2 24 (393 * k + a)) (y.2.2 23) n m
def RVa (x : XY) (y : MY) : Prop := x.1 2 = y.1 7 ∧ x.1 0 = y.1 10 ∧ (∀ f, f < 6 → x.2.2.1 2 f = y.2.2 26 f) ∧ x.2.1 3 = y.2.1 8 ∧ x.2.1 4 = y.2.1 9
/-- the component is as the model is -/
def RV (o : OX) (τ : Nat → Nat) (x : XY) (y : MY) (n m t : Nat) : Prop := 33 ≤ o.1 ∧ RL o τ x (y.2.2 23) n m t ∧ Lb (y.2.2 23) n m t ∧ RVr o τ x y ∧ RVt o τ x y ∧ RVk o τ x y n m ∧ RVa x y
section RVs
variable {o : OX} {τ : Nat → Nat} {x : XY} {y : MY} {n m t : Nat}
theorem RV.h33 (h : RV o τ x y n m t) : 33 ≤ o.1 := h.1
theorem RV.rl (h : RV o τ x y n m t) : RL o τ x (y.2.2 23) n m t := h.2.1
theorem RV.lb (h : RV o τ x y n m t) : Lb (y.2.2 23) n m t := h.2.2.1
theorem RV.row (h : RV o τ x y n m t) : RVr o τ x y := h.2.2.2.1
theorem RV.text (h : RV o τ x y n m t) : RVt o τ x y := h.2.2.2.2.1
theorem RV.kept (h : RV o τ x y n m t) : RVk o τ x y n m := h.2.2.2.2.2.1
theorem RV.vis (h : RV o τ x y n m t) : RVa x y := h.2.2.2.2.2.2
theorem RV.szr (h : RV o τ x y n m t) : szs (y.2.2 19) 6 40 := fun r hr => by
  rcases h.row r hr with e | ⟨k, s, f, -, -, e, hs, -⟩
  · exact Or.inl e.2
  · exact Or.inr ⟨s, hs, e⟩
theorem RV.szt (h : RV o τ x y n m t) : szs (y.2.2 21) 4 80 := fun r hr => by
  rcases h.text r hr with e | ⟨k, s, f, -, -, e, hs, -⟩
  · exact Or.inl e.2
  · exact Or.inr ⟨s, hs, e⟩
end RVs
section OWs
variable {o o' : OX} {τ τ' : Nat → Nat} {x : XY} {y : MY} {n m t k k' tag tag' T : Nat} {c c' d : MC}
theorem Own.put (h : Own o τ k' tag' c') (hk : τ k = tag) (ht : tag' ≠ tag) : Own (oP o k c) τ k' tag' c' := ⟨h.1, h.2.1, by
  show va_up o.2.2.2 k (some c) k' = _
  rw [va_up_ne _ _ (fun z => ht (by rw [← h.2.1, z, hk]))]
  exact h.2.2⟩
theorem Own.puts (h : Own o τ k tag d) : Own (oP o k c) τ k tag c := ⟨h.1, h.2.1, va_up_self _ _ _⟩
theorem Own.new (h : Own o τ k' tag' c') : Own (oN o c) (va_up τ o.1 T) k' tag' c' := ⟨⟨h.1.1, Nat.lt_succ_of_lt h.1.2⟩, by rw [va_up_ne _ _ (by have := h.1.2; omega)]; exact h.2.1, by
  show va_up o.2.2.2 o.1 (some c) k' = _
  rw [va_up_ne _ _ (by have := h.1.2; omega)]
  exact h.2.2⟩
theorem Own.news (h : 33 ≤ o.1) : Own (oN o c) (va_up τ o.1 T) o.1 T c := ⟨⟨h, Nat.lt_succ_self _⟩, va_up_self _ _ _, va_up_self _ _ _⟩
theorem Own.skip (j : Nat) (h : Own o τ k' tag' c') : Own (o.1 + j, o.2) τ k' tag' c' := ⟨⟨h.1.1, Nat.lt_of_lt_of_le h.1.2 (Nat.le_add_right _ _)⟩, h.2⟩
theorem rowR.tr {ty N : Nat} {r : Option Nat} {sz : Int32} {g : Nat → Int32} (h : rowR o τ tag ty N r sz g) (H : ∀ k c, Own o τ k tag c → Own o' τ' k tag c) : rowR o' τ' tag ty N r sz g := by
  rcases h with e | ⟨k, s, f, h1, h2, h3⟩
  · exact Or.inl e
  · exact Or.inr ⟨k, s, f, h1, H _ _ h2, h3⟩
theorem RL.tr {w : Nat → Int32} (h : RL o τ x w n m t) (H : ∀ k tag c, 30 ≤ tag → tag < 30 + n → Own o τ k tag c → Own o' τ' k tag c) : RL o' τ' x w n m t := ⟨h.1, fun c hc => by
  obtain ⟨k, h1, h2⟩ := h.card c hc
  exact ⟨k, h1, H _ _ _ (by omega) (by omega) h2⟩, h.2.2⟩
theorem kpR.tr {r : Option Nat} {fl : Int32} {v w : Nat → Int32} (h : kpR o τ k r fl v w n m) (H : ∀ k' tag c, (tag = 40 + k ∨ (50 + 6 * k ≤ tag ∧ tag < 56 + 6 * k)) → Own o τ k' tag c → Own o' τ' k' tag c) : kpR o' τ' k r fl v w n m := by
  rcases h with e | ⟨p, a, u, f, h1, h2, h3, h4, h5⟩
  · exact Or.inl e
  · exact Or.inr ⟨p, a, u, f, h1, h2, H _ _ _ (Or.inl rfl) h3, fun j hj => H _ _ _ (Or.inr (by omega)) (h4 j hj), h5⟩
theorem kpR.lib {r : Option Nat} {fl : Int32} {v w w' : Nat → Int32} (h : kpR o τ k r fl v w n m) (H : ∀ i, fxA i → w' i = w i) : kpR o τ k r fl v w' n m := by
  rcases h with e | ⟨p, a, u, f, h1, h2, h3, h4, h5, h6, h7⟩
  · exact Or.inl e
  · exact Or.inr ⟨p, a, u, f, h1, h2, h3, h4, h5, fun i hi => (h6 i hi).trans (H i hi).symm, h7⟩
/-- all that was owned is owned -/
theorem RV.tr (h : RV o τ x y n m t) (h33 : 33 ≤ o'.1) (H : ∀ k tag c, Own o τ k tag c → Own o' τ' k tag c) : RV o' τ' x y n m t := ⟨h33, h.rl.tr (fun k tag c _ _ => H k tag c), h.lb, fun r hr => (h.row r hr).tr (fun k c => H k _ c), fun r hr => (h.text r hr).tr (fun k c => H k _ c), fun k hk => (h.kept k hk).tr (fun k tag c _ => H k tag c), h.vis⟩
theorem RV.skip (j : Nat) (h : RV o τ x y n m t) : RV (o.1 + j, o.2) τ x y n m t := h.tr (Nat.le_trans h.h33 (Nat.le_add_right _ _)) (fun _ _ _ q => q.skip j)
theorem RV.new (c : MC) (T : Nat) (h : RV o τ x y n m t) : RV (oN o c) (va_up τ o.1 T) x y n m t := h.tr (Nat.le_succ_of_le h.h33) (fun _ _ _ q => q.new)
theorem RV.ask (h : RV o τ x y n m t) (v : Int32) : RV o τ (tI x 2 v) (sI y 7 v) n m t := ⟨h.h33, h.rl, h.lb, h.row, h.text, h.kept, rfl, h.vis.2.1, h.vis.2.2.1, h.vis.2.2.2.1, h.vis.2.2.2.2⟩
theorem RV.found (h : RV o τ x y n m t) (f : Nat) (hf : f < 6) : RV o τ (xfnd x f) (sfnd y f).2 n m t := ⟨h.h33, h.rl, h.lb, h.row, h.text, h.kept, h.vis.1, rfl, fun g hg => by
  show upd (x.2.2.1 2) f (x.2.2.1 2 f + 1) g = upd (y.2.2 26) f (y.2.2 26 f + 1) g
  simp only [upd]
  rw [h.vis.2.2.1 f hf]
  by_cases e : g = f
  · rw [if_pos e, if_pos e]
  · rw [if_neg e, if_neg e, h.vis.2.2.1 g hg], h.vis.2.2.2.1, h.vis.2.2.2.2⟩
/-- the answer, and the component as the model is behind it -/
def XR (o : OX) (p : Int32 × MY) : Option Value → Mem → Prop := fun v μ => v = some (.int p.1) ∧ ∃ (o' : OX) (x' : XY) (τ : Nat → Nat) (n m t : Nat), μ = mX o' x' ∧ (o'.2.1 = o.2.1 ∧ o'.2.2.1 = o.2.2.1) ∧ RV o' τ x' p.2 n m t
def XRJ (o : OX) (p : Int32 × ((Nat → Int32) → MY)) : Option Value → Mem → Prop := fun v μ => v = some (.int p.1) ∧ ∃ (o' : OX) (x' : XY) (τ : Nat → Nat) (n m t : Nat), μ = mX o' x' ∧ (o'.2.1 = o.2.1 ∧ o'.2.2.1 = o.2.2.1) ∧ ∀ A, RV o' τ x' (p.2 A) n m t
theorem XR.mk {p : Int32 × MY} (h : RV o' τ x p.2 n m t) (h1 : o'.2.1 = o.2.1) (h2 : o'.2.2.1 = o.2.2.1) : XR o p (some (.int p.1)) (mX o' x) := ⟨rfl, o', x, τ, n, m, t, rfl, ⟨h1, h2⟩, h⟩
theorem XR.same {v : Int32} (h : RV o τ x y n m t) : XR o (v, y) (some (.int v)) (mX o x) := ⟨rfl, o, x, τ, n, m, t, rfl, ⟨rfl, rfl⟩, h⟩
theorem XR.ofnd (f : Nat) (hf : f < 6) (h : RV o τ x y n m t) : XR o (sfnd y f) (some (.int (-3))) (mX o (xfnd x f)) := ⟨rfl, o, _, τ, n, m, t, rfl, ⟨rfl, rfl⟩, h.found f hf⟩
theorem XR.oask (v : Int32) (h : RV o τ x y n m t) : XR o (sask y v) (some (.int (nI 1))) (mX o (tI x 2 v)) := ⟨rfl, o, _, τ, n, m, t, rfl, ⟨rfl, rfl⟩, h.ask v⟩
theorem XRJ.mk {p : Int32 × ((Nat → Int32) → MY)} (h : ∀ A, RV o' τ x (p.2 A) n m t) (h1 : o'.2.1 = o.2.1) (h2 : o'.2.2.1 = o.2.2.1) : XRJ o p (some (.int p.1)) (mX o' x) := ⟨rfl, o', x, τ, n, m, t, rfl, ⟨h1, h2⟩, h⟩
end OWs

