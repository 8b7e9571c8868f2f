/-! lots: the model -/
set_option maxRecDepth 100000
def cN (p : Nat → Bool) : Nat → Nat
  | 0 => 0
  | k + 1 => cN p k + (p k).toNat
theorem cntI_nI (p : Nat → Bool) (n : Nat) : cntI p n = nI (cN p n) := by
  induction n with
  | zero => rfl
  | succ n ih =>
    rw [show cntI p (n + 1) = cntI p n + bI (p n) from rfl, ih, show cN p (n + 1) = cN p n + (p n).toNat from rfl, ← nI_add]
    cases p n <;> rfl
theorem cN_le (p : Nat → Bool) (n : Nat) : cN p n ≤ n := by
  induction n with
  | zero => exact Nat.le_refl _
  | succ n ih =>
    rw [show cN p (n + 1) = cN p n + (p n).toNat from rfl]
    have : (p n).toNat ≤ 1 := by cases p n <;> decide
    omega
theorem cN_mono (p : Nat → Bool) {a b : Nat} (h : a ≤ b) : cN p a ≤ cN p b := by
  induction b with
  | zero => have : a = 0 := by omega
            rw [this]; exact Nat.le_refl _
  | succ b ih =>
    by_cases e : a = b + 1
    · rw [e]; exact Nat.le_refl _
    · have := ih (by omega)
      rw [show cN p (b + 1) = cN p b + (p b).toNat from rfl]
      omega
theorem lN_rem {a b : Nat} (ha : a < 2 ^ 63) (h0 : 0 < b) (hb : b < 2 ^ 63) : lN a % lN b = lN (a % b) := by
  rw [← lrem_eq_mod, pk_lRem ha h0 hb]
/-- the l-th of those that hold, from c on -/
def pickF (p : Nat → Bool) : Nat → Nat → Nat → Nat
  | 0, _, c => c
  | f + 1, l, c => if l = 0 ∧ p c = true then c else pickF p f (if p c then l - 1 else l) (c + 1)
abbrev LT : Type := (Nat → Int32) × Nat × Nat
def fcB (w : Nat → Int32) (m q c : Nat) : Bool := frC w m c && fitB w q c
def avB (w : Nat → Int32) (m q c : Nat) : Bool := frQ w q && fcB w m q c
def ltX (a : Nat) : Nat := 48271 * a % 2147483647
def ltC (w : Nat → Int32) (n m q a : Nat) : Nat := pickF (fcB w m q) n (a / 64 % cN (avB w m q) n) 0
def ltStep (n m t : Nat) (u : LT) : LT := if 0 < cN (avB u.1 m (ltX u.2.1 % m)) n then (tkS u.1 (t + u.2.2) (ltX u.2.1 % m) (ltC u.1 n m (ltX u.2.1 % m) (ltX u.2.1)), ltX u.2.1, u.2.2 + 1) else (u.1, ltX u.2.1, u.2.2)
def ltS (n m t : Nat) (w : Nat → Int32) (a : Nat) : Nat → LT
  | 0 => (w, a, 0)
  | k + 1 => ltStep n m t (ltS n m t w a k)
def sp_lots (y : MY) (n m t : Nat) (N seed : Int32) : Int32 × MY := if inR N 1 20 && inR seed 1 2147483646 then (if m = 0 then (-4, y) else if 40 < t + ix N then (-2, y) else (nI (ltS n m t (y.2.2 23) (ix seed) (ix N)).2.2, sA y 23 (ltS n m t (y.2.2 23) (ix seed) (ix N)).1)) else (-1, y)
theorem cN_pos {p : Nat → Bool} {n : Nat} : 0 < cN p n → ∃ c, c < n ∧ p c = true := by
  induction n with
  | zero => intro h; exact absurd h (Nat.lt_irrefl 0)
  | succ n ih =>
    intro h
    rw [show cN p (n + 1) = cN p n + (p n).toNat from rfl] at h
    cases e : p n
    · rw [e] at h
      obtain ⟨c, h1, h2⟩ := ih (by simpa using h)
      exact ⟨c, by omega, h2⟩
    · exact ⟨n, by omega, e⟩
theorem cN_eq {p q : Nat → Bool} {n : Nat} (h : ∀ c, c < n → p c = q c) : cN p n = cN q n := by
  induction n with
  | zero => rfl
  | succ n ih => rw [show cN p (n + 1) = cN p n + (p n).toNat from rfl, show cN q (n + 1) = cN q n + (q n).toNat from rfl, ih (fun c hc => h c (by omega)), h n (by omega)]
theorem av_fc {w : Nat → Int32} {m q n : Nat} (h : 0 < cN (avB w m q) n) : frQ w q = true ∧ cN (avB w m q) n = cN (fcB w m q) n := by
  obtain ⟨c, h1, h2⟩ := cN_pos h
  unfold avB at h2
  simp only [Bool.and_eq_true] at h2
  refine ⟨h2.1, cN_eq (fun k hk => ?_)⟩
  unfold avB
  rw [h2.1, Bool.true_and]
/-- the one picked is there -/
theorem pick_ok {p : Nat → Bool} {n : Nat} : ∀ (f l c : Nat), c + f = n → cN p c + l < cN p n → pickF p f l c < n ∧ p (pickF p f l c) = true := by
  intro f
  induction f with
  | zero => intro l c h1 h2; have : c = n := by omega
            rw [this] at h2; omega
  | succ f ih =>
    intro l c h1 h2
    unfold pickF
    by_cases h : l = 0 ∧ p c = true
    · rw [if_pos h]; exact ⟨by omega, h.2⟩
    · rw [if_neg h]
      refine ih _ _ (by omega) ?_
      rw [show cN p (c + 1) = cN p c + (p c).toNat from rfl]
      cases e : p c
      · simp; omega
      · have : ¬ l = 0 := fun z => h ⟨z, e⟩
        simp; omega
theorem lt_ok {w : Nat → Int32} {n m t k a : Nat} (hL : Lb w n m t) (hm : 0 < m) (ha : a < 2147483647) : t + k ≤ 40 → (ltS n m t w a k).2.2 ≤ k ∧ (ltS n m t w a k).2.1 < 2147483647 ∧ Lb (ltS n m t w a k).1 n m (t + (ltS n m t w a k).2.2) := by
  induction k with
  | zero => intro _; exact ⟨Nat.le_refl _, ha, hL⟩
  | succ k ih =>
    intro ht
    obtain ⟨h1, h2, h3⟩ := ih (by omega)
    rw [show ltS n m t w a (k + 1) = ltStep n m t (ltS n m t w a k) from rfl]
    generalize ltS n m t w a k = u at h1 h2 h3
    unfold ltStep
    have hx : ltX u.2.1 < 2147483647 := Nat.mod_lt _ (by omega)
    split
    · rename_i hp
      obtain ⟨e1, e2⟩ := av_fc hp
      have hq : ltX u.2.1 % m < m := Nat.mod_lt _ hm
      obtain ⟨p1, p2⟩ := pick_ok (p := fcB u.1 m (ltX u.2.1 % m)) (n := n) n (ltX u.2.1 / 64 % cN (avB u.1 m (ltX u.2.1 % m)) n) 0 (by omega) (by
        rw [show cN (fcB u.1 m (ltX u.2.1 % m)) 0 = 0 from rfl, ← e2, Nat.zero_add]
        exact Nat.mod_lt _ hp)
      refine ⟨by dsimp only; omega, hx, ?_⟩
      refine Lb_tkS h3 (by omega) hq p1 ?_
      unfold fcB at p2
      simp only [Bool.and_eq_true] at p2
      exact p2.1
    · exact ⟨by dsimp only; omega, hx, h3⟩

