/-! libraries stay in order -/
set_option maxRecDepth 100000
theorem ansL_no {w : Nat → Int32} {c : Int32} : ∀ {m : Nat}, m ≤ 7 → ansL w c m = -9 → ∀ k, k < m → ¬ w (66 + k) = c := by
  intro m
  induction m with
  | zero => intro _ _ k hk; omega
  | succ m ih =>
    intro h7 h k hk
    unfold ansL at h
    by_cases e : w (66 + m) = c
    · rw [if_pos e] at h
      exfalso
      have := congrArg Int32.toInt h
      rw [nI_toInt (by omega)] at this
      have e9 : (-9 : Int32).toInt = -9 := by decide
      omega
    · rw [if_neg e] at h
      by_cases q : k = m
      · rw [q]; exact e
      · exact ih (by omega) h k (by omega)
theorem frC_no {w : Nat → Int32} {m c : Nat} (h7 : m ≤ 7) (h : frC w m c = true) : ∀ k, k < m → ¬ w (66 + k) = nI c := by
  unfold frC at h
  exact ansL_no h7 (by simpa using h)
theorem Bv_upd {f : Nat → Int32} {n m q c : Nat} (h : Bv f n m) (hc : c < n) (hn : n ≤ 7) (hq : q < m) (hno : ∀ k, k < m → ¬ f k = nI c) (g : Nat → Int32) (hg : ∀ k, k < m → g k = if k = q then nI c else f k) : Bv g n m := by
  refine ⟨fun k hk => ?_, fun a b ha hb h9 e => ?_⟩
  · rw [hg k hk]
    by_cases z : k = q
    · rw [if_pos z]; exact Or.inr ⟨c, hc, rfl⟩
    · rw [if_neg z]; exact h.1 k hk
  · rw [hg a ha] at h9 e
    rw [hg b hb] at e
    by_cases za : a = q
    · by_cases zb : b = q
      · omega
      · rw [if_pos za, if_neg zb] at e
        exact absurd e.symm (hno b hb)
    · by_cases zb : b = q
      · rw [if_neg za, if_pos zb] at e
        exact absurd e (hno a ha)
      · rw [if_neg za] at h9 e
        rw [if_neg zb] at e
        exact h.2 a b ha hb h9 e
theorem Bv_eq {f g : Nat → Int32} {n m : Nat} (h : Bv f n m) (e : ∀ k, k < m → g k = f k) : Bv g n m :=
  ⟨fun k hk => by rw [e k hk]; exact h.1 k hk, fun a b ha hb h9 z => h.2 a b ha hb (by rw [← e a ha]; exact h9) (by rw [← e a ha, ← e b hb]; exact z)⟩
theorem rg_eq {w v : Nat → Int32} {a b : Nat} (h : rg w a b) (e : ∀ c, c < 7 → v (a + c) = w (a + c)) : rg v a b := fun c hc => by
  obtain ⟨k, hk, z⟩ := h c hc
  exact ⟨k, hk, (e c hc).trans z⟩
/-- a library whose first part is unchanged -/
theorem Lb.to {w v : Nat → Int32} {n m t u : Nat} (h : Lb w n m t) (hp : ∀ a, a < 59 → a ≠ 2 → v a = w a) (h2 : v 2 = nI u) (hu : u ≤ 40) (ht : ∀ q, q < 7 → v (59 + q) = -9 ∨ ∃ k, k ≤ 9 ∧ v (59 + q) = nI k) (hb : Bv (fun q => v (66 + q)) n m) (ha : ∀ j, j < u → Bv (fun q => v (113 + 7 * j + q)) n m) : Lb v n m u :=
  ⟨⟨(hp 0 (by omega) (by omega)).trans h.c, h.c7⟩, ⟨(hp 1 (by omega) (by omega)).trans h.q, h.q7⟩, ⟨h2, hu⟩,
    rg_eq h.kind (fun c hc => hp _ (by omega) (by omega)), rg_eq h.says (fun c hc => hp _ (by omega) (by omega)), rg_eq h.shelf (fun c hc => hp _ (by omega) (by omega)), rg_eq h.age (fun c hc => hp _ (by omega) (by omega)), rg_eq h.asks (fun c hc => hp _ (by omega) (by omega)), rg_eq h.from_ (fun c hc => hp _ (by omega) (by omega)), rg_eq h.to_ (fun c hc => hp _ (by omega) (by omega)), rg_eq h.wish (fun c hc => hp _ (by omega) (by omega)), ht, hb, ha⟩
theorem tkS_low {w : Nat → Int32} {t q c a : Nat} (ha : a < 66) (h2 : a ≠ 2) : tkS w t q c a = w a := tkS_kind ha h2
theorem Lb_tkS {w : Nat → Int32} {n m t q c : Nat} (h : Lb w n m t) (ht : t < 40) (hq : q < m) (hc : c < n) (hf : frC w m c = true) : Lb (tkS w t q c) n m (t + 1) := by
  have h7 := h.c7
  have h7q := h.q7
  have hno := frC_no h7q hf
  refine h.to (fun a ha h2 => tkS_low (by omega) h2) ?_ (by omega) (fun k hk => ?_) ?_ (fun j hj => ?_)
  · unfold tkS
    rw [pk_us, h.tk, nI_add]
  · rw [tkS_low (by omega) (by omega)]; exact h.truth k hk
  · refine Bv_upd h.by_ hc h7 hq hno _ (fun k hk => ?_)
    by_cases z : k = q
    · rw [if_pos z, z, tkS_by]
    · rw [if_neg z]
      unfold tkS
      rw [pk_un (by omega), pk_un (by omega), pk_un (by omega), pk_cpy_out (by omega)]
  · by_cases z : j = t
    · refine Bv_eq h.by_ (fun k hk => ?_)
      unfold tkS
      rw [pk_un (by omega), pk_un (by omega), pk_un (by omega), pk_cpy_in (by omega) (by omega)]
      congr 1
      omega
    · refine Bv_eq (h.ahead j (by omega)) (fun k hk => ?_)
      unfold tkS
      rw [pk_un (by omega), pk_un (by omega), pk_un (by omega), pk_cpy_out (by omega)]

