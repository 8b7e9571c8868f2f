/-! shelves put in order: the law -/
set_option maxRecDepth 100000
def sD (K : Nat → Nat → Nat) : Nat → Nat → (Nat → Nat) → Nat
  | 0, _, _ => 0
  | r + 1, s, d => (if d 0 < 6 then K (d 0) s else 0) + sD K r (s + 1) (fun i => d (i + 1))
theorem Fe_of {K : Nat → Nat → Nat} : ∀ (r s : Nat) (kp : Nat → Bool) (d : Nat → Nat), (∀ i, i < r → d i ≤ 6) → (∀ kd, kd < 6 → kp kd = true → ∃ i, i < r ∧ d i = kd) → Fe K r s kp (sD K r s d) := by
  intro r
  induction r with
  | zero =>
    intro s kp d h1 h2
    refine ⟨fun kd hk => ?_, rfl⟩
    cases e : kp kd with
    | false => rfl
    | true => obtain ⟨i, hi, -⟩ := h2 kd hk e; omega
  | succ r ih =>
    intro s kp d h1 h2
    by_cases h : d 0 < 6
    · right
      refine ⟨d 0, h, _, ih (s + 1) (upB kp (d 0) false) (fun i => d (i + 1)) (fun i hi => h1 (i + 1) (by omega)) (fun kd hk e => ?_), by show (if d 0 < 6 then K (d 0) s else 0) + sD K r (s + 1) (fun i => d (i + 1)) = _; rw [if_pos h]⟩
      unfold upB at e
      by_cases e0 : kd = d 0
      · rw [if_pos e0] at e; cases e
      · rw [if_neg e0] at e
        obtain ⟨i, hi, ei⟩ := h2 kd hk e
        cases i with
        | zero => exact absurd ei.symm e0
        | succ i => exact ⟨i, by omega, ei⟩
    · left
      have e6 : d 0 = 6 := by have := h1 0 (by omega); omega
      show Fe K r (s + 1) kp ((if d 0 < 6 then K (d 0) s else 0) + sD K r (s + 1) (fun i => d (i + 1)))
      rw [if_neg h, Nat.zero_add]
      refine ih (s + 1) kp (fun i => d (i + 1)) (fun i hi => h1 (i + 1) (by omega)) (fun kd hk e => ?_)
      obtain ⟨i, hi, ei⟩ := h2 kd hk e
      cases i with
      | zero => omega
      | succ i => exact ⟨i, by omega, ei⟩
theorem Fe_to {K : Nat → Nat → Nat} : ∀ (r s : Nat) (kp : Nat → Bool) (z : Nat), Fe K r s kp z → ∃ d : Nat → Nat, (∀ i, d i ≤ 6) ∧ (∀ kd, kd < 6 → kp kd = true → ∃ i, i < r ∧ d i = kd) ∧ z = sD K r s d := by
  intro r
  induction r with
  | zero =>
    intro s kp z h
    exact ⟨fun _ => 6, fun _ => Nat.le_refl _, fun kd hk e => absurd e (by rw [h.1 kd hk]; decide), h.2⟩
  | succ r ih =>
    intro s kp z h
    rcases h with h | ⟨kd0, hk0, z', h, rfl⟩
    · obtain ⟨d, d1, d2, rfl⟩ := ih _ _ _ h
      refine ⟨fun i => match i with | 0 => 6 | i + 1 => d i, fun i => by cases i with | zero => exact Nat.le_refl _ | succ i => exact d1 i, fun kd hk e => ?_, ?_⟩
      · obtain ⟨i, hi, ei⟩ := d2 kd hk e
        exact ⟨i + 1, by omega, ei⟩
      · show _ = (if 6 < 6 then _ else 0) + sD K r (s + 1) d
        rw [if_neg (by omega), Nat.zero_add]
    · obtain ⟨d, d1, d2, rfl⟩ := ih _ _ _ h
      refine ⟨fun i => match i with | 0 => kd0 | i + 1 => d i, fun i => by cases i with | zero => exact Nat.le_of_lt hk0 | succ i => exact d1 i, fun kd hk e => ?_, ?_⟩
      · by_cases e0 : kd = kd0
        · exact ⟨0, by omega, e0.symm⟩
        · obtain ⟨i, hi, ei⟩ := d2 kd hk (by unfold upB; rw [if_neg e0]; exact e)
          exact ⟨i + 1, by omega, ei⟩
      · show _ = (if kd0 < 6 then K kd0 s else 0) + sD K r (s + 1) d
        rw [if_pos hk0]
def kpB (w : Nat → Int32) (n : Nat) (i : Nat) : Bool := match n with
  | 0 => false
  | n + 1 => kpB w n i || w (3 + n) == nI i
theorem orK_or {w : Nat → Int32} : ∀ {n : Nat}, (∀ c, c < n → ∃ k, k ≤ 5 ∧ w (3 + c) = nI k) → orK w n = orI (kpB w n) 6
  | 0, _ => (orI_0 _ _ (fun c _ => rfl)).symm
  | n + 1, h => by
    obtain ⟨k, hk, e⟩ := h n (by omega)
    unfold orK
    rw [orK_or (fun c hc => h c (by omega)), e, orI_put _ (by omega) (show k < 6 by omega)]
    refine orI_eq (fun i hi => ?_)
    unfold upB
    show (if i = k then true else kpB w n i) = (kpB w n i || w (3 + n) == nI i)
    rw [e, nI_beq (by omega) (by omega)]
    by_cases hik : i = k
    · rw [if_pos hik, hik]; simp
    · rw [if_neg hik, decide_eq_false (fun z => hik z.symm), Bool.or_false]
def dgt (code i : Nat) : Nat := code / 7 ^ i % 7
theorem dgt_6 (code i : Nat) : dgt code i ≤ 6 := by unfold dgt; have := Nat.mod_lt (code / 7 ^ i) (show 0 < 7 by omega); omega
theorem od_met (w : Nat → Int32) (n code : Nat) : ∀ s, (odS w n code s).1 = orI (fun j => decide (∃ i, i < s ∧ dgt code i = j)) 7
  | 0 => (orI_0 _ _ (fun c hc => decide_eq_false (fun ⟨i, hi, _⟩ => absurd hi (Nat.not_lt_zero i)))).symm
  | s + 1 => by
    show (odS w n code s).1 ||| (nI 1 <<< (nI (dgt code s) &&& 31)) = _
    have := dgt_6 code s
    rw [od_met w n code s, orI_put _ (by omega) (show dgt code s < 7 by omega)]
    refine orI_eq (fun j hj => ?_)
    unfold upB
    by_cases e : j = dgt code s
    · rw [if_pos e]
      exact (decide_eq_true ⟨s, by omega, e.symm⟩).symm
    · rw [if_neg e]
      refine decide_eq_decide.mpr ⟨fun ⟨i, h1, h2⟩ => ⟨i, by omega, h2⟩, fun ⟨i, h1, h2⟩ => ?_⟩
      by_cases ei : i = s
      · subst ei; exact absurd h2.symm e
      · exact ⟨i, by omega, h2⟩
theorem cN_f : ∀ n, cN (fun _ => false) n = 0
  | 0 => rfl
  | n + 1 => by show cN (fun _ => false) n + 0 = 0; rw [cN_f n]
theorem kc_6 {w : Nat → Int32} {n m t : Nat} (hL : Lb w n m t) (s : Nat) : kcN w n 6 s = 0 := by
  have h7 := hL.c7
  have : kcN w n 6 s = cN (fun _ => false) n := cN_eq (fun c hc => by
    obtain ⟨k, hk, e⟩ := hL.kind c (by omega)
    rw [e, nI_beq (by omega) (by omega), decide_eq_false (by omega), Bool.false_and])
  rw [this]
  exact cN_f n
def kcD (K : Nat → Nat → Nat) (d s : Nat) : Nat := if d < 6 then K d s else 0
theorem od_stay {w : Nat → Int32} {n m t : Nat} (hL : Lb w n m t) (code : Nat) : (odS w n code 4).2 = nI (sD (kcN w n) 4 0 (dgt code)) := by
  have e : ∀ s, lyN w (nI (dgt code s)) (nI s) n = nI (kcD (kcN w n) (dgt code s) s) := fun s => by
    rw [lyN_k]
    unfold kcD
    by_cases h : dgt code s < 6
    · rw [if_pos h]
    · rw [if_neg h, show dgt code s = 6 by have := dgt_6 code s; omega, kc_6 hL]
  show nI 0 + lyN w (nI (dgt code 0)) (nI 0) n + lyN w (nI (dgt code 1)) (nI 1) n + lyN w (nI (dgt code 2)) (nI 2) n + lyN w (nI (dgt code 3)) (nI 3) n = _
  rw [e, e, e, e, nI_add, nI_add, nI_add, nI_add]
  congr 1
  show 0 + kcD (kcN w n) (dgt code 0) 0 + kcD (kcN w n) (dgt code 1) 1 + kcD (kcN w n) (dgt code 2) 2 + kcD (kcN w n) (dgt code 3) 3 = kcD (kcN w n) (dgt code 0) 0 + (kcD (kcN w n) (dgt code 1) 1 + (kcD (kcN w n) (dgt code 2) 2 + (kcD (kcN w n) (dgt code 3) 3 + 0)))
  omega

