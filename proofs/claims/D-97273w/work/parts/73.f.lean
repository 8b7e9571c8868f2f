/-! matchings: the model's and the component's come to the same -/
set_option maxRecDepth 100000
def gd2 (n m : Nat) (f : LF) : Prop := okC f.1 n m ∧ ∃ k, k ≤ 63 ∧ f.2 = nI k
theorem lv_gd2 {may : Nat → Nat → Bool} {wt : Nat → Int32} {n m : Nat} (hm : m ≤ 7) (hw : ∀ q, q < m → ∃ z, z ≤ 9 ∧ wt q = nI z) : ∀ (r q : Nat), q + r = m → ∀ (used : Nat → Bool) (ch : Nat → Int32) (k : Nat) (l : List LF), k ≤ 9 * q → okC ch n q → (∀ f ∈ l, gd2 n m f) → ∀ f ∈ wk may wt n appV r q used ch (nI k) l, gd2 n m f := by
  intro r
  induction r with
  | zero =>
    intro q hq used ch k l hk hc hl f hf
    rcases List.mem_cons.mp (show f ∈ (ch, nI k) :: l from hf) with rfl | h
    · exact ⟨by rw [← hq]; exact hc, k, by omega, rfl⟩
    · exact hl f h
  | succ r ih =>
    intro q hq used ch k l hk hc hl
    obtain ⟨z, hz, ez⟩ := hw q (by omega)
    rw [wk_s]
    refine ih (q + 1) (by omega) used _ k _ (by omega) (up_rng (Nat.le_refl _) hc) ?_
    have key : ∀ i, i ≤ n → ∀ f ∈ it (stp may wt n appV r q used ch (nI k)) l i, gd2 n m f := by
      intro i
      induction i with
      | zero => intro _; exact hl
      | succ i ih2 =>
        intro hi
        show ∀ f ∈ stp may wt n appV r q used ch (nI k) i (it (stp may wt n appV r q used ch (nI k)) l i), gd2 n m f
        have ih3 := ih2 (by omega)
        generalize it (stp may wt n appV r q used ch (nI k)) l i = u at ih3 ⊢
        unfold stp
        split
        · rw [ez, nI_add]
          exact ih (q + 1) (by omega) _ _ (k + z) _ (by omega) (up_rng (by omega) hc) ih3
        · exact ih3
    exact key n (Nat.le_refl _)
theorem bst_at {ch B : Nat → Int32} {n : Nat} (hn : n ≤ 7) : ∀ k, okC ch n k → ∀ j, j < k → bstF ch n B k j = pr n (ch j) := by
  intro k
  induction k with
  | zero => intro _ j hj; omega
  | succ k ih =>
    intro hk j hj
    show upd (bstF ch n B k) k (if ch k < nI n then ch k else -9) j = _
    by_cases e : j = k
    · subst e
      obtain ⟨d, hd, ed⟩ := hk j (by omega)
      rw [pk_us]
      unfold pr
      by_cases hdn : d < n
      · rw [if_pos (by rw [ed]; exact nI_lt hdn (by omega)), if_neg (by rw [ed]; exact fun z => absurd ((nI_eq (by omega) (by omega)).mp z) (by omega))]
      · rw [if_neg (by rw [ed]; exact nI_nlt (by omega) (by omega)), if_pos (by rw [ed, show d = n by omega])]
    · rw [pk_un e]
      exact ih (fun j hj => hk j (by omega)) j (by omega)
theorem m1_lt (k : Nat) (hk : k < 2 ^ 31) : (-1 : Int32) < nI k := by
  rw [Int32.lt_iff_toInt_lt, nI_toInt hk]
  have : (-1 : Int32).toInt = -1 := by decide
  omega
theorem vis_1 (n m : Nat) (ch : Nat → Int32) (sum : Int32) (s : QS) : (vis n m ch sum s).1 = if s.1 < sum then sum else s.1 := by
  unfold vis vis1 vis2
  by_cases h : s.1 < sum
  · simp [h]
  · simp only [if_neg h]
    by_cases h2 : sum = s.1
    · rw [if_pos h2]
    · rw [if_neg h2]
theorem vis_b (n m : Nat) (ch : Nat → Int32) (sum : Int32) (s : QS) : (vis n m ch sum s).2.2.2 = if s.1 < sum then bstF ch n s.2.2.2 m else s.2.2.2 := by
  unfold vis vis1 vis2
  by_cases h : s.1 < sum
  · simp [h]
  · simp only [if_neg h]
    by_cases h2 : sum = s.1
    · rw [if_pos h2]
    · rw [if_neg h2]
theorem fo_best {n m : Nat} (hn : n ≤ 7) {s0 : QS} {S0 : Int32 × (Nat → Int32)} (h0 : s0.1 = -1) (h1 : S0.1 = -1) : ∀ (l : List LF), (∀ f ∈ l, gd2 n m f) → l = [] ∨ ((foV (vis n m) s0 l).1 = (foV (VB n) S0 l).1 ∧ ∀ j, j < m → (foV (vis n m) s0 l).2.2.2 j = (foV (VB n) S0 l).2 j)
  | [], _ => Or.inl rfl
  | f :: l, h => by
    right
    obtain ⟨hok, k, hk, ek⟩ := h f List.mem_cons_self
    have hl : (foV (vis n m) s0 l).1 = (foV (VB n) S0 l).1 ∧ (foV (VB n) S0 l).1 < f.2 ∨ ((foV (vis n m) s0 l).1 = (foV (VB n) S0 l).1 ∧ ∀ j, j < m → (foV (vis n m) s0 l).2.2.2 j = (foV (VB n) S0 l).2 j) := by
      rcases fo_best hn h0 h1 l (fun g hg => h g (List.mem_cons_of_mem _ hg)) with rfl | z
      · left
        exact ⟨h0.trans h1.symm, by show S0.1 < f.2; rw [h1, ek]; exact m1_lt k (by omega)⟩
      · exact Or.inr z
    show (vis n m f.1 f.2 (foV (vis n m) s0 l)).1 = (VB n f.1 f.2 (foV (VB n) S0 l)).1 ∧ ∀ j, j < m → (vis n m f.1 f.2 (foV (vis n m) s0 l)).2.2.2 j = (VB n f.1 f.2 (foV (VB n) S0 l)).2 j
    generalize foV (vis n m) s0 l = s at hl ⊢
    generalize foV (VB n) S0 l = S at hl ⊢
    rw [vis_1, vis_b]
    unfold VB
    rcases hl with ⟨e1, e2⟩ | ⟨e1, e2⟩
    · rw [e1, if_pos e2, if_pos e2, if_pos e2]
      exact ⟨rfl, fun j hj => bst_at hn m hok j hj⟩
    · rw [e1]
      by_cases e3 : S.1 < f.2
      · rw [if_pos e3, if_pos e3, if_pos e3]
        exact ⟨rfl, fun j hj => bst_at hn m hok j hj⟩
      · rw [if_neg e3, if_neg e3, if_neg e3]
        exact ⟨rfl, e2⟩
theorem wt_gd {w : Nat → Int32} {n m t : Nat} (hL : Lb w n m t) (b : Bool) : ∀ q, q < m → ∃ z, z ≤ 9 ∧ wtI w b q = nI z := fun q hq => by
  cases b with
  | true => exact hL.wish q (by have := hL.q7; omega)
  | false => exact ⟨1, by omega, rfl⟩
/-- the best, by pairs or by wishes -/
theorem lay_best (y : MY) {n m t : Nat} (hL : Lb (y.2.2 23) n m t) (b : Bool) (B : Nat → Int32) : (layQ y n m b).1 = (wk (mayB (y.2.2 23) m) (wtI (y.2.2 23) b) n (VB n) m 0 (fun _ => false) (fun _ => 0) (nI 0) (-1, B)).1 ∧ ∀ j, j < m → (layQ y n m b).2.2.2 j = (wk (mayB (y.2.2 23) m) (wtI (y.2.2 23) b) n (VB n) m 0 (fun _ => false) (fun _ => 0) (nI 0) (-1, B)).2 j := by
  unfold layQ
  rw [wk_fo (vis n m), wk_fo (VB n)]
  exact (fo_best hL.c7 rfl rfl _ (lv_gd2 hL.q7 (wt_gd hL b) m 0 (by omega) _ _ 0 [] (by omega) (fun j hj => absurd hj (Nat.not_lt_zero j)) (fun f hf => by cases hf))).resolve_left (lv_ne _ _ _ _ _ _)
theorem wth_eq {ch W W' : Nat → Int32} {n : Nat} (hn : n ≤ 7) (h : ∀ i, i < 49 → W i = W' i) : ∀ k, k ≤ 7 → okC ch n k → ∀ i, i < 49 → wthF ch n W k i = wthF ch n W' k i := by
  intro k hk hok i hi
  have e : i = 7 * (i / 7) + i % 7 := by omega
  rw [e, wth_at hn (by omega) k hok, wth_at hn (by omega) k hok, h _ (by omega)]
theorem vis_aw (n m : Nat) (ch : Nat → Int32) (sum : Int32) (s : QS) : ((vis n m ch sum s).2.1, (vis n m ch sum s).2.2.1) = if s.1 < sum then (nI 0 + nI 1, wthF ch n (fillI s.2.2.1 0 (nI 0) 49) m) else if sum = s.1 then (s.2.1 + nI 1, wthF ch n s.2.2.1 m) else (s.2.1, s.2.2.1) := by
  unfold vis vis1 vis2
  by_cases h : s.1 < sum
  · simp [h]
  · simp only [if_neg h]
    by_cases h2 : sum = s.1
    · rw [if_pos h2, if_pos h2]
    · rw [if_neg h2, if_neg h2]
theorem fo_VF0 {M : Int32} {n m : Nat} {z : Int32 × (Nat → Int32)} : ∀ (l : List LF), (∀ f ∈ l, ¬ f.2 = M) → foV (VF M n m) z l = z
  | [], _ => rfl
  | f :: l, h => by
    show VF M n m f.1 f.2 (foV (VF M n m) z l) = z
    unfold VF
    rw [if_neg (h f List.mem_cons_self)]
    exact fo_VF0 l (fun g hg => h g (List.mem_cons_of_mem _ hg))
theorem i_nlt_of {a b c : Int32} (h1 : ¬ a < b) (h2 : a < c) : ¬ b = c := fun e => h1 (by rw [e]; exact h2)
theorem fo_all {n m : Nat} (hn : n ≤ 7) (hm : m ≤ 7) {s0 : QS} {Z : Nat → Int32} (h0 : s0.1 = -1) (hZ : ∀ i, i < 49 → Z i = nI 0) : ∀ (l : List LF), (∀ f ∈ l, gdF n m f) → l = [] ∨ ((∀ g ∈ l, ¬ (foV (vis n m) s0 l).1 < g.2) ∧ (foV (vis n m) s0 l).2.1 = (foV (VF (foV (vis n m) s0 l).1 n m) (nI 0, Z) l).1 ∧ (∀ i, i < 49 → (foV (vis n m) s0 l).2.2.1 i = (foV (VF (foV (vis n m) s0 l).1 n m) (nI 0, Z) l).2 i) ∧ ∃ g ∈ l, g.2 = (foV (vis n m) s0 l).1)
  | [], _ => Or.inl rfl
  | f :: l, h => by
    right
    obtain ⟨hok, k, hk, ek⟩ := h f List.mem_cons_self
    have hl : (∀ g ∈ l, ¬ (foV (vis n m) s0 l).1 < g.2) ∧ ((foV (vis n m) s0 l).1 < f.2 ∨ ((foV (vis n m) s0 l).2.1 = (foV (VF (foV (vis n m) s0 l).1 n m) (nI 0, Z) l).1 ∧ (∀ i, i < 49 → (foV (vis n m) s0 l).2.2.1 i = (foV (VF (foV (vis n m) s0 l).1 n m) (nI 0, Z) l).2 i) ∧ ∃ g ∈ l, g.2 = (foV (vis n m) s0 l).1)) := by
      rcases fo_all hn hm h0 hZ l (fun g hg => h g (List.mem_cons_of_mem _ hg)) with rfl | ⟨z1, z2⟩
      · exact ⟨fun g hg => (by cases hg), Or.inl (by show s0.1 < f.2; rw [h0, ek]; exact m1_lt k (by omega))⟩
      · exact ⟨z1, Or.inr z2⟩
    obtain ⟨hmax, hl⟩ := hl
    have e1 : (foV (vis n m) s0 (f :: l)).1 = if (foV (vis n m) s0 l).1 < f.2 then f.2 else (foV (vis n m) s0 l).1 := vis_1 n m f.1 f.2 _
    have e2 : ((foV (vis n m) s0 (f :: l)).2.1, (foV (vis n m) s0 (f :: l)).2.2.1) = _ := vis_aw n m f.1 f.2 (foV (vis n m) s0 l)
    have e3 : foV (VF (foV (vis n m) s0 (f :: l)).1 n m) (nI 0, Z) (f :: l) = VF (foV (vis n m) s0 (f :: l)).1 n m f.1 f.2 (foV (VF (foV (vis n m) s0 (f :: l)).1 n m) (nI 0, Z) l) := rfl
    have e2a := congrArg Prod.fst e2
    have e2b := congrArg Prod.snd e2
    dsimp only at e2a e2b
    rw [e3, e2a, e2b, e1]
    clear e1 e2 e3 e2a e2b
    generalize foV (vis n m) s0 l = s at hmax hl ⊢
    by_cases c1 : s.1 < f.2
    · simp only [if_pos c1]
      have hz := fo_VF0 (n := n) (m := m) (z := (nI 0, Z)) l (fun g hg => i_nlt_of (hmax g hg) c1)
      rw [hz]
      refine ⟨fun g hg => ?_, ?_, fun i hi => ?_, f, List.mem_cons_self, rfl⟩
      · rcases List.mem_cons.mp hg with rfl | hg
        · exact fun z => Int32.lt_irrefl z
        · exact fun z => hmax g hg (Int32.lt_trans c1 z)
      · unfold VF; rw [if_pos rfl]
      · unfold VF
        rw [if_pos rfl]
        exact wth_eq hn (fun i hi => by unfold fillI; rw [if_pos (by omega)]; exact (hZ i hi).symm) m hm hok i hi
    · simp only [if_neg c1]
      obtain ⟨a1, a2, a3⟩ := hl.resolve_left c1
      refine ⟨fun g hg => ?_, ?_, fun i hi => ?_, ?_⟩
      · rcases List.mem_cons.mp hg with rfl | hg
        · exact c1
        · exact hmax g hg
      · unfold VF
        by_cases c2 : f.2 = s.1
        · rw [if_pos c2, if_pos c2]
          exact congrArg (· + nI 1) a1
        · rw [if_neg c2, if_neg c2]
          exact a1
      · unfold VF
        by_cases c2 : f.2 = s.1
        · rw [if_pos c2, if_pos c2]
          exact wth_eq hn a2 m hm hok i hi
        · rw [if_neg c2, if_neg c2]
          exact a2 i hi
      · obtain ⟨g, hg, eg⟩ := a3
        exact ⟨g, List.mem_cons_of_mem _ hg, eg⟩
/-- the fullest: how many, how many with each pair -/
theorem lay_full (y : MY) {n m t : Nat} (hL : Lb (y.2.2 23) n m t) : ∃ Mx, Mx ≤ 7 ∧ (layQ y n m false).1 = nI Mx ∧ (layQ y n m false).2.1 = nI (cL (fun f => f.2 == (layQ y n m false).1) (lvL (y.2.2 23) n m)) ∧ (∀ q c, q < 7 → c < 7 → (layQ y n m false).2.2.1 (7 * q + c) = nI (cL (inF (layQ y n m false).1 n m q c) (lvL (y.2.2 23) n m))) ∧ 0 < cL (fun f => f.2 == (layQ y n m false).1) (lvL (y.2.2 23) n m) ∧ (lvL (y.2.2 23) n m).length ≤ 130922 := by
  have hg : ∀ f ∈ lvL (y.2.2 23) n m, gdF n m f := lv_gd hL.q7 m 0 (by omega) _ _ 0 [] (by omega) (fun j hj => absurd hj (Nat.not_lt_zero j)) (fun f hf => by cases hf)
  have e : layQ y n m false = foV (vis n m) (-1, y.1 17, y.2.2 30, y.2.2 29) (lvL (y.2.2 23) n m) := by
    unfold layQ lvL
    rw [wk_fo (vis n m)]
  obtain ⟨h1, h2, h3, g, hg1, hg2⟩ := (fo_all hL.c7 hL.q7 (s0 := (-1, y.1 17, y.2.2 30, y.2.2 29)) (Z := fun _ => nI 0) rfl (fun _ _ => rfl) _ hg).resolve_left (lv_ne _ _ _ _ _ _)
  rw [← e] at h1 h2 h3 hg2
  obtain ⟨c1, c2⟩ := VF_cnt (M := (layQ y n m false).1) hL.c7 (Z := fun _ => nI 0) (fun _ _ => rfl) _ hg
  obtain ⟨-, k, hk, ek⟩ := hg g hg1
  refine ⟨k, hk, hg2.symm.trans ek, h2.trans c1, fun q c hq hc => (h3 _ (by omega)).trans (c2 q c hq hc), cL_pos hg1 (by simp [hg2]), ?_⟩
  have hl := lv_len (may := mayB (y.2.2 23) m) (wt := wtI (y.2.2 23) false) (n := n) m 0 (fun _ => false) (fun _ => 0) (nI 0) []
  have hb := tN_b m hL.q7 (cN (fun j => !false) n) (Nat.le_trans (cN_le _ _) hL.c7)
  exact Nat.le_trans hl (by rw [List.length_nil]; omega)

