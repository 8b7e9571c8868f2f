/-! the component: in how many questions one finds which -/
set_option maxRecDepth 100000
def pcn (a : Nat) : Nat := cN (fun i => a.testBit i) 7
theorem tb_nI {a : Nat} (ha : a < 128) {i : Nat} (hi : i < 32) : bit (nI a) i = a.testBit i := bit_nI a i hi
theorem fiN_t (w : Nat → Int32) (n a q i : Nat) (hi : i < 32) : (fiN w n a q).testBit i = (a.testBit i && !(fiY w n a q).testBit i) := by
  unfold fiN
  rw [Nat.testBit_and, ← bit_vN, bit_xor, bit_m1 i hi, bit_nI _ i hi]
  simp
theorem fi_sum (w : Nat → Int32) (n a q : Nat) : pcn (fiY w n a q) + pcn (fiN w n a q) = pcn a := by
  unfold pcn
  have h : ∀ i, i < 7 → (fiN w n a q).testBit i = (a.testBit i && !(fiY w n a q).testBit i) := fun i hi => fiN_t w n a q i (by omega)
  rw [cN_eq (p := fun i => (fiN w n a q).testBit i) h, cN_or (fun c z => by rw [Bool.and_eq_true] at z; have := z.2.2; rw [z.1] at this; cases this)]
  refine cN_eq (fun i hi => ?_)
  have : (fiY w n a q).testBit i = (a.testBit i && (vN (fsI w n q)).testBit i) := by unfold fiY; rw [Nat.testBit_and]
  rw [this]
  cases a.testBit i <;> cases (vN (fsI w n q)).testBit i <;> rfl
theorem pcn_pos {a : Nat} (ha : a < 128) (h : ¬ a = 0) : 0 < pcn a := by
  revert a
  have : ∀ a, a < 128 → ¬ a = 0 → 0 < pcn a := by decide +kernel
  exact fun {a} ha h => this a ha h
theorem fiY_le (w : Nat → Int32) (n a q : Nat) : fiY w n a q ≤ a := Nat.and_le_left
theorem fiN_le (w : Nat → Int32) (n a q : Nat) : fiN w n a q ≤ a := Nat.and_le_left
theorem fi_both {w : Nat → Int32} {n a q : Nat} (ha : a < 128) : (¬ fiY w n a q = 0 ∧ ¬ fiY w n a q = a) ↔ (¬ fiY w n a q = 0 ∧ ¬ fiN w n a q = 0) := by
  have hs := fi_sum w n a q
  constructor
  · rintro ⟨h1, h2⟩
    refine ⟨h1, fun z => h2 ?_⟩
    refine Nat.eq_of_testBit_eq (fun i => ?_)
    by_cases hi : i < 32
    · have := fiN_t w n a q i hi
      rw [z, Nat.zero_testBit] at this
      have hy : (fiY w n a q).testBit i = (a.testBit i && (vN (fsI w n q)).testBit i) := by unfold fiY; rw [Nat.testBit_and]
      revert this
      rw [hy]
      cases a.testBit i <;> cases (vN (fsI w n q)).testBit i <;> simp
    · rw [Nat.testBit_lt_two_pow (Nat.lt_of_le_of_lt (fiY_le w n a q) (Nat.lt_of_lt_of_le ha (Nat.le_trans (by decide : 128 ≤ 2 ^ 32) (Nat.pow_le_pow_right (by omega) (by omega))))), Nat.testBit_lt_two_pow (Nat.lt_of_lt_of_le ha (Nat.le_trans (by decide : 128 ≤ 2 ^ 32) (Nat.pow_le_pow_right (by omega) (by omega))))]
  · rintro ⟨h1, h2⟩
    refine ⟨h1, fun z => ?_⟩
    have := pcn_pos (Nat.lt_of_le_of_lt (fiN_le w n a q) ha) h2
    rw [z] at hs
    omega
def cvF (v : Int32) : Int32 := if v = nI 99 then nI 1048576 else v
def mxI (a b : Int32) : Int32 := if a < b then b else a
def gdA (i : Nat) (v : Int32) : Prop := v = nI 99 ∨ ∃ z, z + 1 ≤ pcn i ∧ v = nI z
theorem pcn_7 (i : Nat) : pcn i ≤ 7 := cN_le _ _
theorem gdA_cv {i : Nat} {v : Int32} (h : gdA i v) : (v = nI 99 ∧ cvF v = nI 1048576) ∨ ∃ z, z ≤ 6 ∧ z + 1 ≤ pcn i ∧ v = nI z ∧ cvF v = nI z := by
  rcases h with e | ⟨z, hz, e⟩
  · exact Or.inl ⟨e, by unfold cvF; rw [if_pos e]⟩
  · have := pcn_7 i
    refine Or.inr ⟨z, by omega, hz, e, ?_⟩
    unfold cvF
    rw [e, if_neg (fun q => by have := (nI_eq (by omega) (by omega)).mp q; omega)]
def csS (w C : Nat → Int32) (n a : Nat) : Nat → Int32 × Int32
  | 0 => (-9, nI 1048576)
  | q + 1 => if (¬ fiY w n a q = 0 ∧ ¬ fiY w n a q = a) ∧ nI 1 + mxI (C (fiY w n a q)) (C (fiN w n a q)) < (csS w C n a q).2 then (nI q, nI 1 + mxI (C (fiY w n a q)) (C (fiN w n a q))) else csS w C n a q
theorem cs_fi {w A C : Nat → Int32} {n a : Nat} (ha : a < 128) (hC : ∀ i, 1 ≤ i → i < a → C i = cvF (A i) ∧ gdA i (A i)) : ∀ q, (csS w C n a q).1 = (fiS w A n a q).1 ∧ (csS w C n a q).2 = cvF (fiS w A n a q).2 ∧ gdA a (fiS w A n a q).2 := by
  intro q
  induction q with
  | zero => exact ⟨rfl, rfl, Or.inl rfl⟩
  | succ q ih =>
    have s1 : csS w C n a (q + 1) = if (¬ fiY w n a q = 0 ∧ ¬ fiY w n a q = a) ∧ nI 1 + mxI (C (fiY w n a q)) (C (fiN w n a q)) < (csS w C n a q).2 then (nI q, nI 1 + mxI (C (fiY w n a q)) (C (fiN w n a q))) else csS w C n a q := rfl
    have s2 : fiS w A n a (q + 1) = if (¬ fiY w n a q = 0 ∧ ¬ fiN w n a q = 0) ∧ fiB w A n a q < (fiS w A n a q).2 then (nI q, fiB w A n a q) else fiS w A n a q := rfl
    rw [s1, s2]
    clear s1 s2
    generalize csS w C n a q = S at ih ⊢
    generalize fiS w A n a q = T at ih ⊢
    obtain ⟨i1, i2, i3⟩ := ih
    by_cases hb : ¬ fiY w n a q = 0 ∧ ¬ fiY w n a q = a
    · have hb' := (fi_both ha).mp hb
      have hs := fi_sum w n a q
      have hy := fiY_le w n a q
      have hn := fiN_le w n a q
      have py := pcn_pos (by omega) hb'.1
      have pn := pcn_pos (by omega) hb'.2
      have hna : fiN w n a q < a := by
        rcases Nat.lt_or_ge (fiN w n a q) a with z | z
        · exact z
        · rw [show fiN w n a q = a by omega] at hs; omega
      obtain ⟨cy, gy⟩ := hC (fiY w n a q) (by omega) (by omega)
      obtain ⟨cn, gn⟩ := hC (fiN w n a q) (by omega) hna
      have pa := pcn_7 a
      rcases gdA_cv i3 with ⟨t1, t2⟩ | ⟨zt, ht6, ht, t1, t2⟩
      all_goals
        rcases gdA_cv gy with ⟨y1, y2⟩ | ⟨zy, hy6, hyp, y1, y2⟩
        · have c1 : ¬ nI 1 + mxI (C (fiY w n a q)) (C (fiN w n a q)) < S.2 := by
            rw [cy, y2, cn, i2, t2]
            rcases gdA_cv gn with ⟨n1, n2⟩ | ⟨zn, hn6, hnp, n1, n2⟩
            · rw [n2]
              unfold mxI
              rw [if_neg (nI_nlt (Nat.le_refl _) (by omega)), nI_add]
              exact nI_nlt (by omega) (by omega)
            · rw [n2]
              unfold mxI
              rw [if_neg (nI_nlt (by omega) (by omega)), nI_add]
              exact nI_nlt (by omega) (by omega)
          have c2 : ¬ fiB w A n a q < T.2 := by
            unfold fiB
            rw [y1, t1]
            rcases gdA_cv gn with ⟨n1, n2⟩ | ⟨zn, hn6, hnp, n1, n2⟩
            · rw [n1, if_neg (nI_nlt (Nat.le_refl _) (by omega)), nI_add]
              exact nI_nlt (by omega) (by omega)
            · rw [n1, if_pos (nI_lt (by omega) (by omega)), nI_add]
              exact nI_nlt (by omega) (by omega)
          rw [if_neg (fun z => c1 z.2), if_neg (fun z => c2 z.2)]
          exact ⟨i1, i2, i3⟩
        · rcases gdA_cv gn with ⟨n1, n2⟩ | ⟨zn, hn6, hnp, n1, n2⟩
          · have c1 : ¬ nI 1 + mxI (C (fiY w n a q)) (C (fiN w n a q)) < S.2 := by
              rw [cy, y2, cn, n2, i2, t2]
              unfold mxI
              rw [if_pos (nI_lt (by omega) (by omega)), nI_add]
              exact nI_nlt (by omega) (by omega)
            have c2 : ¬ fiB w A n a q < T.2 := by
              unfold fiB
              rw [y1, n1, t1, if_neg (nI_nlt (by omega) (by omega)), nI_add]
              exact nI_nlt (by omega) (by omega)
            rw [if_neg (fun z => c1 z.2), if_neg (fun z => c2 z.2)]
            exact ⟨i1, i2, i3⟩
          · have e1 : ∃ M, (M = zy ∨ M = zn) ∧ nI 1 + mxI (C (fiY w n a q)) (C (fiN w n a q)) = nI (M + 1) ∧ fiB w A n a q = nI (M + 1) := by
              unfold fiB mxI
              rw [cy, y2, cn, n2, y1, n1]
              by_cases hlt : zy < zn
              · refine ⟨zn, Or.inr rfl, ?_, ?_⟩
                · rw [if_pos (nI_lt hlt (by omega)), nI_add, Nat.add_comm]
                · rw [if_neg (nI_nlt (by omega) (by omega)), nI_add, Nat.add_comm]
              · refine ⟨zy, Or.inl rfl, ?_, ?_⟩
                · rw [if_neg (nI_nlt (by omega) (by omega)), nI_add, Nat.add_comm]
                · by_cases hgt : zn < zy
                  · rw [if_pos (nI_lt hgt (by omega)), nI_add, Nat.add_comm]
                  · rw [if_neg (nI_nlt (by omega) (by omega)), show zn = zy by omega, nI_add, Nat.add_comm]
            obtain ⟨M, hM, e1, e2⟩ := e1
            have hM1 : M + 1 + 1 ≤ pcn a := by omega
            have ecv : cvF (nI (M + 1)) = nI (M + 1) := by
              unfold cvF
              rw [if_neg (fun q => by have := (nI_eq (by omega) (by omega)).mp q; omega)]
            have eiff : nI (M + 1) < S.2 ↔ nI (M + 1) < T.2 := by
              first
                | (rw [i2, t2, t1]; done)
                | (rw [i2, t2, t1]; exact ⟨fun _ => nI_lt (by omega) (by omega), fun _ => nI_lt (by omega) (by omega)⟩)
            rw [e1, e2]
            by_cases hlt : nI (M + 1) < T.2
            · rw [if_pos ⟨hb, eiff.mpr hlt⟩, if_pos ⟨hb', hlt⟩]
              exact ⟨rfl, ecv.symm, Or.inr ⟨M + 1, hM1, rfl⟩⟩
            · rw [if_neg (fun z => hlt (eiff.mp z.2)), if_neg (fun z => hlt z.2)]
              exact ⟨i1, i2, i3⟩
    · rw [if_neg (fun z => hb z.1), if_neg (fun z => hb ((fi_both ha).mpr z.1))]
      exact ⟨i1, i2, i3⟩
theorem bc_one : ∀ a, a < 128 → 1 ≤ a → (bcE (nI a) = nI 1 ↔ oneB (nI a) = true) ∧ (bcE (nI a) ≤ nI 1 ↔ oneB (nI a) = true) ∧ (oneB (nI a) = true → 1 ≤ pcn a) := by decide +kernel

