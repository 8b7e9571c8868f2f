/-! matchings: the laws -/
set_option maxRecDepth 100000
abbrev LF : Type := (Nat → Int32) × Int32
def okC (ch : Nat → Int32) (n m : Nat) : Prop := ∀ j, j < m → ∃ c, c ≤ n ∧ ch j = nI c
theorem it_rel {σ σ' : Type} (R : σ → σ' → Prop) {f : Nat → σ → σ} {f' : Nat → σ' → σ'} {s : σ} {s' : σ'} : ∀ {n : Nat}, R s s' → (∀ c, c < n → ∀ u u', R u u' → R (f c u) (f' c u')) → R (it f s n) (it f' s' n)
  | 0, h, _ => h
  | n + 1, h, H => H n (by omega) _ _ (it_rel R h (fun c hc => H c (by omega)))
theorem wk_rel {σ σ' : Type} (R : σ → σ' → Prop) {may : Nat → Nat → Bool} {wt : Nat → Int32} {n m : Nat} {V : (Nat → Int32) → Int32 → σ → σ} {V' : (Nat → Int32) → Int32 → σ' → σ'} (hV : ∀ ch sum s s', okC ch n m → R s s' → R (V ch sum s) (V' ch sum s')) : ∀ (r q : Nat), q + r = m → ∀ (used : Nat → Bool) (ch : Nat → Int32) (sum : Int32) (s : σ) (s' : σ'), okC ch n q → R s s' → R (wk may wt n V r q used ch sum s) (wk may wt n V' r q used ch sum s') := by
  intro r
  induction r with
  | zero =>
    intro q hq used ch sum s s' hc h
    exact hV ch sum s s' (by rw [← hq]; exact hc) h
  | succ r ih =>
    intro q hq used ch sum s s' hc h
    rw [wk_s, wk_s]
    refine ih (q + 1) (by omega) used _ sum _ _ (up_rng (Nat.le_refl _) hc) (it_rel R h (fun c hcn u u' hu => ?_))
    unfold stp
    split
    · exact ih (q + 1) (by omega) _ _ _ _ _ (up_rng (by omega) hc) hu
    · exact hu
def appV (ch : Nat → Int32) (sum : Int32) (l : List LF) : List LF := (ch, sum) :: l
def foV {σ : Type} (V : (Nat → Int32) → Int32 → σ → σ) (s : σ) : List LF → σ
  | [] => s
  | f :: l => V f.1 f.2 (foV V s l)
theorem wk_fo {σ : Type} {may : Nat → Nat → Bool} {wt : Nat → Int32} {n m : Nat} (V : (Nat → Int32) → Int32 → σ → σ) (sum : Int32) (s : σ) : wk may wt n V m 0 (fun _ => false) (fun _ => 0) sum s = foV V s (wk may wt n appV m 0 (fun _ => false) (fun _ => 0) sum []) :=
  wk_rel (fun s l => s = foV V _ l) (m := m) (fun ch sum s l _ h => by rw [h]; rfl) m 0 (by omega) _ _ _ _ _ (fun j hj => absurd hj (Nat.not_lt_zero j)) rfl
def lvL (w : Nat → Int32) (n m : Nat) : List LF := wk (mayB w m) (wtI w false) n appV m 0 (fun _ => false) (fun _ => 0) (nI 0) []
def gdF (n m : Nat) (f : LF) : Prop := okC f.1 n m ∧ ∃ k, k ≤ 7 ∧ f.2 = nI k
theorem lv_gd {may : Nat → Nat → Bool} {w : Nat → Int32} {n m : Nat} (hm : m ≤ 7) : ∀ (r q : Nat), q + r = m → ∀ (used : Nat → Bool) (ch : Nat → Int32) (k : Nat) (l : List LF), k ≤ q → okC ch n q → (∀ f ∈ l, gdF n m f) → ∀ f ∈ wk may (wtI w false) n appV r q used ch (nI k) l, gdF n m f := by
  intro r
  induction r with
  | zero =>
    intro q hq used ch k l hk hc hl f hf
    rcases List.mem_cons.mp (show f ∈ (ch, nI k) :: l from hf) with rfl | h
    · exact ⟨by rw [← hq]; exact hc, k, by omega, rfl⟩
    · exact hl f h
  | succ r ih =>
    intro q hq used ch k l hk hc hl
    rw [wk_s]
    refine ih (q + 1) (by omega) used _ k _ (by omega) (up_rng (Nat.le_refl _) hc) ?_
    have key : ∀ i, i ≤ n → ∀ f ∈ it (stp may (wtI w false) n appV r q used ch (nI k)) l i, gdF n m f := by
      intro i
      induction i with
      | zero => intro _; exact hl
      | succ i ih2 =>
        intro hi
        show ∀ f ∈ stp may (wtI w false) n appV r q used ch (nI k) i (it (stp may (wtI w false) n appV r q used ch (nI k)) l i), gdF n m f
        have ih3 := ih2 (by omega)
        generalize it (stp may (wtI w false) n appV r q used ch (nI k)) l i = u at ih3 ⊢
        unfold stp
        split
        · rw [show wtI w false q = nI 1 from rfl, nI_add]
          exact ih (q + 1) (by omega) _ _ (k + 1) _ (by omega) (up_rng (by omega) hc) ih3
        · exact ih3
    exact key n (Nat.le_refl _)
theorem lv_ne {may : Nat → Nat → Bool} {wt : Nat → Int32} {n : Nat} : ∀ (r q : Nat) (used : Nat → Bool) (ch : Nat → Int32) (sum : Int32) (l : List LF), wk may wt n appV r q used ch sum l ≠ [] := by
  intro r
  induction r with
  | zero => intro q used ch sum l; exact List.cons_ne_nil _ _
  | succ r ih => intro q used ch sum l; rw [wk_s]; exact ih _ _ _ _ _
def tN : Nat → Nat → Nat
  | 0, _ => 1
  | r + 1, f => tN r f + f * tN r (f - 1)
theorem cN_up {used : Nat → Bool} {c : Nat} (h : used c = false) : ∀ n, c < n → cN (fun j => !upB used c true j) n + 1 = cN (fun j => !used j) n
  | 0, hc => absurd hc (Nat.not_lt_zero c)
  | n + 1, hc => by
    have e1 : cN (fun j => !upB used c true j) (n + 1) = cN (fun j => !upB used c true j) n + (!upB used c true n).toNat := rfl
    have e2 : cN (fun j => !used j) (n + 1) = cN (fun j => !used j) n + (!used n).toNat := rfl
    rw [e1, e2]
    by_cases e : n = c
    · subst e
      have : cN (fun j => !upB used n true j) n = cN (fun j => !used j) n := cN_eq (fun j hj => by unfold upB; rw [if_neg (by omega)])
      rw [this, h]
      unfold upB
      simp
    · have := cN_up h n (by omega)
      have e3 : upB used c true n = used n := by unfold upB; rw [if_neg e]
      rw [e3]
      omega
theorem lv_len {may : Nat → Nat → Bool} {wt : Nat → Int32} {n : Nat} : ∀ (r q : Nat) (used : Nat → Bool) (ch : Nat → Int32) (sum : Int32) (l : List LF), (wk may wt n appV r q used ch sum l).length ≤ l.length + tN r (cN (fun j => !used j) n) := by
  intro r
  induction r with
  | zero => intro q used ch sum l; exact Nat.le_refl _
  | succ r ih =>
    intro q used ch sum l
    rw [wk_s]
    refine Nat.le_trans (ih _ _ _ _ _) ?_
    have key : ∀ i, i ≤ n → (it (stp may wt n appV r q used ch sum) l i).length ≤ l.length + cN (fun j => !used j) i * tN r (cN (fun j => !used j) n - 1) := by
      intro i
      induction i with
      | zero => intro _; exact Nat.le_add_right _ _
      | succ i ih2 =>
        intro hi
        have e2 : cN (fun j => !used j) (i + 1) = cN (fun j => !used j) i + (!used i).toNat := rfl
        have h2 := ih2 (by omega)
        show (stp may wt n appV r q used ch sum i (it (stp may wt n appV r q used ch sum) l i)).length ≤ _
        unfold stp
        rw [e2, Nat.add_mul]
        split
        · rename_i hb
          have hu : used i = false := by
            rw [Bool.and_eq_true] at hb
            simpa using hb.2
          have h3 := ih (q + 1) (upB used i true) (upd ch q (nI i)) (sum + wt q) (it (stp may wt n appV r q used ch sum) l i)
          have h4 := cN_up hu n (by omega)
          rw [show cN (fun j => !upB used i true j) n = cN (fun j => !used j) n - 1 by omega] at h3
          rw [hu]
          refine Nat.le_trans h3 ?_
          simp only [Bool.not_false, Bool.toNat_true, Nat.one_mul]
          unfold stp at h2
          omega
        · unfold stp at h2
          omega
    have := key n (Nat.le_refl _)
    show _ ≤ l.length + (tN r (cN (fun j => !used j) n) + cN (fun j => !used j) n * tN r (cN (fun j => !used j) n - 1))
    omega
theorem tN_b : ∀ r, r ≤ 7 → ∀ f, f ≤ 7 → tN r f ≤ 130922 := by decide +kernel
def cL (p : LF → Bool) : List LF → Nat
  | [] => 0
  | f :: l => cL p l + (p f).toNat
theorem cL_le (p : LF → Bool) : ∀ l, cL p l ≤ l.length
  | [] => Nat.le_refl _
  | f :: l => by
    unfold cL
    have := cL_le p l
    rw [List.length_cons]
    have : (p f).toNat ≤ 1 := by cases p f <;> decide
    omega
theorem cL_mono {p q : LF → Bool} : ∀ {l : List LF}, (∀ f ∈ l, p f = true → q f = true) → cL p l ≤ cL q l
  | [], _ => Nat.le_refl _
  | f :: l, h => by
    unfold cL
    have h1 := cL_mono (l := l) (fun g hg => h g (List.mem_cons_of_mem _ hg))
    have h2 := h f List.mem_cons_self
    revert h2
    cases p f <;> cases q f <;> simp <;> omega
theorem cL_two {p p' q : LF → Bool} : ∀ {l : List LF}, (∀ f ∈ l, (p f = true → q f = true ∧ p' f = false) ∧ (p' f = true → q f = true)) → cL p l + cL p' l ≤ cL q l
  | [], _ => Nat.le_refl _
  | f :: l, h => by
    unfold cL
    have h1 := cL_two (l := l) (fun g hg => h g (List.mem_cons_of_mem _ hg))
    have h2 := h f List.mem_cons_self
    revert h2
    cases p f <;> cases p' f <;> cases q f <;> simp <;> omega
theorem cL_pos {p : LF → Bool} : ∀ {l : List LF} {f : LF}, f ∈ l → p f = true → 0 < cL p l
  | g :: l, f, hf, h => by
    unfold cL
    rcases List.mem_cons.mp hf with rfl | hf
    · rw [h]; simp
    · have := cL_pos hf h
      omega
theorem wth_at {ch : Nat → Int32} {n : Nat} (hn : n ≤ 7) {W : Nat → Int32} {q c : Nat} (hc : c < 7) : ∀ k, okC ch n k → wthF ch n W k (7 * q + c) = W (7 * q + c) + bI (decide (q < k) && decide (c < n) && ch q == nI c) := by
  intro k
  induction k with
  | zero =>
    intro _
    show W (7 * q + c) = _
    rw [show decide (q < 0) = false by simp, Bool.false_and, Bool.false_and]
    show _ = W (7 * q + c) + nI 0
    rw [nI_0, Int32.add_zero]
  | succ k ih =>
    intro hk
    have ih := ih (fun j hj => hk j (by omega))
    obtain ⟨d, hd, ed⟩ := hk k (by omega)
    show (if ch k < nI n then upd (wthF ch n W k) (7 * k + ix (ch k)) (wthF ch n W k (7 * k + ix (ch k)) + nI 1) else wthF ch n W k) (7 * q + c) = _
    by_cases hdn : d < n
    · rw [if_pos (by rw [ed]; exact nI_lt hdn (by omega)), ed, ix_nI (show d < 100 by omega)]
      by_cases e : q = k ∧ c = d
      · obtain ⟨rfl, rfl⟩ := e
        rw [pk_us, ih, ed]
        simp [hdn, bI]
        rw [nI_0]
      · rw [pk_un (by omega), ih]
        congr 2
        by_cases hqk : q = k
        · subst hqk
          have hcd : ¬ c = d := fun z => e ⟨rfl, z⟩
          have : (ch q == nI c) = false := by
            rw [ed]
            simp
            exact fun z => hcd ((nI_eq (by omega) (by omega)).mp z).symm
          rw [this]
          simp
        · rw [show decide (q < k + 1) = decide (q < k) by by_cases z : q < k <;> simp [z] <;> omega]
    · rw [if_neg (by rw [ed]; exact nI_nlt (by omega) (by omega)), ih]
      congr 2
      by_cases hqk : q = k
      · subst hqk
        have : (decide (c < n) && ch q == nI c) = false := by
          rw [ed]
          by_cases z : c < n
          · simp
            intro _ z2
            have := (nI_eq (by omega) (by omega)).mp z2
            omega
          · simp [z]
        rw [Bool.and_assoc, Bool.and_assoc, this]
        simp
      · rw [show decide (q < k + 1) = decide (q < k) by by_cases z : q < k <;> simp [z] <;> omega]
def inF (M : Int32) (n m q c : Nat) (f : LF) : Bool := f.2 == M && (decide (q < m) && decide (c < n) && f.1 q == nI c)
theorem VF_cnt {M : Int32} {n m : Nat} (hn : n ≤ 7) {Z : Nat → Int32} (hZ : ∀ i, i < 49 → Z i = nI 0) : ∀ (l : List LF), (∀ f ∈ l, gdF n m f) → (foV (VF M n m) (nI 0, Z) l).1 = nI (cL (fun f => f.2 == M) l) ∧ ∀ q c, q < 7 → c < 7 → (foV (VF M n m) (nI 0, Z) l).2 (7 * q + c) = nI (cL (inF M n m q c) l)
  | [], _ => ⟨rfl, fun q c hq hc => hZ _ (by omega)⟩
  | f :: l, h => by
    obtain ⟨h1, h2⟩ := VF_cnt (M := M) hn hZ l (fun g hg => h g (List.mem_cons_of_mem _ hg))
    have hf := (h f List.mem_cons_self).1
    show (if f.2 = M then ((foV (VF M n m) (nI 0, Z) l).1 + nI 1, wthF f.1 n (foV (VF M n m) (nI 0, Z) l).2 m) else foV (VF M n m) (nI 0, Z) l).1 = nI (cL (fun f => f.2 == M) l + (f.2 == M).toNat) ∧ ∀ q c, q < 7 → c < 7 → (if f.2 = M then ((foV (VF M n m) (nI 0, Z) l).1 + nI 1, wthF f.1 n (foV (VF M n m) (nI 0, Z) l).2 m) else foV (VF M n m) (nI 0, Z) l).2 (7 * q + c) = nI (cL (inF M n m q c) l + (inF M n m q c f).toNat)
    by_cases e : f.2 = M
    · rw [if_pos e]
      refine ⟨by rw [h1, nI_add, e]; simp, fun q c hq hc => ?_⟩
      show wthF f.1 n _ m (7 * q + c) = _
      rw [wth_at hn hc m hf, h2 q c hq hc]
      unfold inF
      rw [show (f.2 == M) = true by simp [e], Bool.true_and]
      cases (decide (q < m) && decide (c < n) && f.1 q == nI c)
      · show nI _ + nI 0 = _; rw [nI_add]; rfl
      · show nI _ + nI 1 = _; rw [nI_add]; rfl
    · rw [if_neg e]
      have e' : (f.2 == M) = false := by
        cases z : f.2 == M with
        | false => rfl
        | true => exact absurd (eq_of_beq z) e
      refine ⟨by rw [h1, e']; rfl, fun q c hq hc => ?_⟩
      rw [h2 q c hq hc]
      unfold inF
      rw [e', Bool.false_and]
      rfl

