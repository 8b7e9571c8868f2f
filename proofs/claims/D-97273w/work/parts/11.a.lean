/-! small static methods of both classes, any memory -/
set_option maxRecDepth 100000
/-- the answer is r, the memory behind is μ' -/
def Rt (r : Option Value) (μ' : Mem) : Option Value → Mem → Prop := fun v m => v = r ∧ m = μ'
theorem rt1 {γ : GG} {R : Room} {K : Option Value → Mem → Prop} {cells slots pc : Nat} {lc : List (Option Value)} {st : List Value} {r : Option Value} {μ' : Mem} (k : GL γ R K cells slots pc lc (r.toList ++ st) μ') : ∀ v μ1, Rt r μ' v μ1 → GL γ R K cells slots pc lc (v.toList ++ st) μ1 := by
  rintro _ _ ⟨rfl, rfl⟩
  exact k
def bI (c : Bool) : Int32 := if c then nI 1 else nI 0
theorem bI_t : bI true = nI 1 := rfl
theorem bI_f : bI false = nI 0 := rfl
theorem bI_1 (c : Bool) : bI c &&& 1 = bI c := by cases c <;> decide
theorem bI_ne (c : Bool) : bI c = 0 ↔ c = false := by cases c <;> decide
def inR (v lo hi : Int32) : Bool := decide (lo ≤ v) && decide (v ≤ hi)
theorem i_lt {a b : Int32} : a < b ↔ ¬ b ≤ a := ⟨k2_nle, k2_lt⟩
theorem x_isIn (L : Nat) (μ : Mem) (v lo hi : Int32) : Ct yX0_isIn gX0_isIn (L + 10) 0 0 [.int v, .int lo, .int hi] μ (Rt (some (.int (bI (inR v lo hi)))) μ) := by
  refine Ct.of rfl rfl rfl rfl rfl ?_
  refine gl_iload_n dX0_isIn_0 rfl ?_
  refine gl_iload_n dX0_isIn_1 rfl ?_
  refine gl_icmp_lt (tgt := 14) dX0_isIn_2 (by decide) (fun h2 => ?_) (fun h2 => ?_)
  · refine gl_iconst (v := nI 0) dX0_isIn_14 (by decide) ?_
    exact gl_zret dX0_isIn_15 rfl (by decide) ⟨by simp [inR, i_lt.mp h2, bI], rfl⟩
  · refine gl_iload_n dX0_isIn_5 rfl ?_
    refine gl_iload_n dX0_isIn_6 rfl ?_
    refine gl_icmp_gt (tgt := 14) dX0_isIn_7 (by decide) (fun h7 => ?_) (fun h7 => ?_)
    · refine gl_iconst (v := nI 0) dX0_isIn_14 (by decide) ?_
      exact gl_zret dX0_isIn_15 rfl (by decide) ⟨by simp [inR, i_lt.mp h7, bI], rfl⟩
    · refine gl_iconst (v := nI 1) dX0_isIn_10 (by decide) ?_
      refine gl_goto (tgt := 15) dX0_isIn_11 (by decide) ?_
      exact gl_zret dX0_isIn_15 rfl (by decide) ⟨by simp [inR, k2_le h2, k2_le h7, bI], rfl⟩
theorem x_isRow (L : Nat) (μ : Mem) (v : Int32) : Ct yX0_isRow gX0_isRow (L + 11) 0 0 [.int v] μ (Rt (some (.int (bI (inR v 0 5)))) μ) := by
  refine Ct.of rfl rfl rfl rfl rfl ?_
  refine gl_iload_n dX0_isRow_0 rfl ?_
  refine gl_iconst (v := nI 0) dX0_isRow_1 (by decide) ?_
  refine gl_iconst (v := nI 5) dX0_isRow_2 (by decide) ?_
  refine gl_callS (x_isIn L μ v (nI 0) (nI 5)) dX0_isRow_3 q298 q299 q74 q300 rfl hX0_isIn rfl rfl (rmOk (by omega) rfl) ⟨by first | exact Nat.le_refl _ | exact Nat.zero_le _ | decide | (dsimp only [rm]; omega), by first | exact Nat.le_refl _ | exact Nat.zero_le _ | decide | (dsimp only [rm]; omega)⟩ (rt1 ?_)
  exact gl_zret dX0_isRow_6 rfl (bI_1 _) ⟨rfl, rfl⟩

theorem x_isText (L : Nat) (μ : Mem) (v : Int32) : Ct yX0_isText gX0_isText (L + 11) 0 0 [.int v] μ (Rt (some (.int (bI (inR v 0 3)))) μ) := by
  refine Ct.of rfl rfl rfl rfl rfl ?_
  refine gl_iload_n dX0_isText_0 rfl ?_
  refine gl_iconst (v := nI 0) dX0_isText_1 (by decide) ?_
  refine gl_iconst (v := nI 3) dX0_isText_2 (by decide) ?_
  refine gl_callS (x_isIn L μ v (nI 0) (nI 3)) dX0_isText_3 q298 q299 q74 q300 rfl hX0_isIn rfl rfl (rmOk (by omega) rfl) ⟨by first | exact Nat.le_refl _ | exact Nat.zero_le _ | decide | (dsimp only [rm]; omega), by first | exact Nat.le_refl _ | exact Nat.zero_le _ | decide | (dsimp only [rm]; omega)⟩ (rt1 ?_)
  exact gl_zret dX0_isText_6 rfl (bI_1 _) ⟨rfl, rfl⟩
theorem x_isKept (L : Nat) (μ : Mem) (v : Int32) : Ct yX0_isKept gX0_isKept (L + 11) 0 0 [.int v] μ (Rt (some (.int (bI (inR v 0 2)))) μ) := by
  refine Ct.of rfl rfl rfl rfl rfl ?_
  refine gl_iload_n dX0_isKept_0 rfl ?_
  refine gl_iconst (v := nI 0) dX0_isKept_1 (by decide) ?_
  refine gl_iconst (v := nI 2) dX0_isKept_2 (by decide) ?_
  refine gl_callS (x_isIn L μ v (nI 0) (nI 2)) dX0_isKept_3 q298 q299 q74 q300 rfl hX0_isIn rfl rfl (rmOk (by omega) rfl) ⟨by first | exact Nat.le_refl _ | exact Nat.zero_le _ | decide | (dsimp only [rm]; omega), by first | exact Nat.le_refl _ | exact Nat.zero_le _ | decide | (dsimp only [rm]; omega)⟩ (rt1 ?_)
  exact gl_zret dX0_isKept_6 rfl (bI_1 _) ⟨rfl, rfl⟩
def inRL (v lo hi : Int64) : Bool := decide (lo ≤ v) && decide (v ≤ hi)
theorem inRL_i (v lo hi : Int32) : inRL v.toInt64 lo.toInt64 hi.toInt64 = inR v lo hi := by
  simp only [inRL, inR, Int64.le_iff_toInt_le, Int32.le_iff_toInt_le, Int32.toInt_toInt64]
theorem lc_lt {x y : Int64} : lg_cmp x y < 0 ↔ ¬ y ≤ x := by
  unfold lg_cmp
  by_cases h : x > y
  · rw [if_pos h]
    have : y ≤ x := Int64.le_of_lt h
    simp [this]
  · rw [if_neg h]
    by_cases h2 : x = y
    · rw [if_pos h2, h2]; simp
    · rw [if_neg h2]
      have h3 : ¬ y ≤ x := fun q => by
        have a1 := Int64.le_iff_toInt_le.mp q
        have a2 : ¬ y.toInt < x.toInt := fun z => h (Int64.lt_iff_toInt_lt.mpr z)
        exact h2 (Int64.toInt_inj.mp (by omega))
      simp [h3]
theorem lc_gt {x y : Int64} : 0 < lg_cmp x y ↔ ¬ x ≤ y := by
  unfold lg_cmp
  by_cases h : x > y
  · rw [if_pos h]
    have : ¬ x ≤ y := fun q => by
      have a1 := Int64.le_iff_toInt_le.mp q
      have a2 := Int64.lt_iff_toInt_lt.mp h
      omega
    simp [this]
  · rw [if_neg h]
    have h3 : x ≤ y := by
      have a2 : ¬ y.toInt < x.toInt := fun z => h (Int64.lt_iff_toInt_lt.mpr z)
      exact Int64.le_iff_toInt_le.mpr (by omega)
    by_cases h2 : x = y
    · rw [if_pos h2]; simp [h3]
    · rw [if_neg h2]; simp [h3]
theorem m_in (L : Nat) (μ : Mem) (v lo hi : Int64) : Ct yX1_in gX1_in (L + 10) 0 0 [.long v, .long lo, .long hi] μ (Rt (some (.int (bI (inRL v lo hi)))) μ) := by
  refine Ct.of rfl rfl rfl rfl rfl ?_
  refine gl_lload_n dX1_in_0 rfl ?_
  refine gl_lload_n dX1_in_1 rfl ?_
  refine gl_lcmp dX1_in_2 ?_
  refine gl_if_lt (tgt := 17) dX1_in_3 (by decide) (fun h3 => ?_) (fun h3 => ?_)
  · refine gl_iconst (v := nI 0) dX1_in_17 (by decide) ?_
    exact gl_zret dX1_in_18 rfl (by decide) ⟨by simp [inRL, lc_lt.mp h3, bI], rfl⟩
  · refine gl_lload_n dX1_in_6 rfl ?_
    refine gl_lload dX1_in_7 rfl ?_
    refine gl_lcmp dX1_in_9 ?_
    have h3' : lo ≤ v := Classical.not_not.mp (fun q => h3 (lc_lt.mpr q))
    refine gl_if_gt (tgt := 17) dX1_in_10 (by decide) (fun h10 => ?_) (fun h10 => ?_)
    · refine gl_iconst (v := nI 0) dX1_in_17 (by decide) ?_
      exact gl_zret dX1_in_18 rfl (by decide) ⟨by simp [inRL, lc_gt.mp h10, bI], rfl⟩
    · have h10' : v ≤ hi := Classical.not_not.mp (fun q => h10 (lc_gt.mpr q))
      refine gl_iconst (v := nI 1) dX1_in_13 (by decide) ?_
      refine gl_goto (tgt := 18) dX1_in_14 (by decide) ?_
      exact gl_zret dX1_in_18 rfl (by decide) ⟨by simp [inRL, h3', h10', bI], rfl⟩
theorem m_in_i (L : Nat) (μ : Mem) (v : Int32) {lo hi : Int64} (lo' hi' : Int32) (h1 : lo = lo'.toInt64) (h2 : hi = hi'.toInt64) : Ct yX1_in gX1_in (L + 10) 0 0 [.long v.toInt64, .long lo, .long hi] μ (Rt (some (.int (bI (inR v lo' hi')))) μ) := by
  subst h1; subst h2
  rw [← inRL_i]
  exact m_in L μ _ _ _
theorem m_isRow (L : Nat) (μ : Mem) (v : Int32) : Ct yX1_isRow gX1_isRow (L + 11) 0 0 [.int v] μ (Rt (some (.int (bI (inR v 0 5)))) μ) := by
  refine Ct.of rfl rfl rfl rfl rfl ?_
  refine gl_iload_n dX1_isRow_0 rfl ?_
  refine gl_i2l dX1_isRow_1 ?_
  refine gl_lconst (v := 0) dX1_isRow_2 (by decide) ?_
  refine gl_ldc2 (v := 5) q1092 dX1_isRow_3 ?_
  refine gl_callS (m_in_i L μ v 0 5 (by decide) (by decide)) dX1_isRow_6 q1093 q1094 q75 q1095 rfl hX1_in rfl rfl (rmOk (by omega) rfl) ⟨by first | exact Nat.le_refl _ | exact Nat.zero_le _ | decide | (dsimp only [rm]; omega), by first | exact Nat.le_refl _ | exact Nat.zero_le _ | decide | (dsimp only [rm]; omega)⟩ (rt1 ?_)
  exact gl_zret dX1_isRow_9 rfl (bI_1 _) ⟨rfl, rfl⟩
theorem m_isText (L : Nat) (μ : Mem) (v : Int32) : Ct yX1_isText gX1_isText (L + 11) 0 0 [.int v] μ (Rt (some (.int (bI (inR v 0 3)))) μ) := by
  refine Ct.of rfl rfl rfl rfl rfl ?_
  refine gl_iload_n dX1_isText_0 rfl ?_
  refine gl_i2l dX1_isText_1 ?_
  refine gl_lconst (v := 0) dX1_isText_2 (by decide) ?_
  refine gl_ldc2 (v := 3) q1131 dX1_isText_3 ?_
  refine gl_callS (m_in_i L μ v 0 3 (by decide) (by decide)) dX1_isText_6 q1093 q1094 q75 q1095 rfl hX1_in rfl rfl (rmOk (by omega) rfl) ⟨by first | exact Nat.le_refl _ | exact Nat.zero_le _ | decide | (dsimp only [rm]; omega), by first | exact Nat.le_refl _ | exact Nat.zero_le _ | decide | (dsimp only [rm]; omega)⟩ (rt1 ?_)
  exact gl_zret dX1_isText_9 rfl (bI_1 _) ⟨rfl, rfl⟩
/-- a contract out of the walk of its body, for a class that has members of the machine's own -/
theorem Ct.ofF {y : MethodName} {γ : GG} {L mc ms : Nat} {av : List Value} {μ : Mem} {K : Option Value → Mem → Prop} (hy : plainFor y = true) (hh : γ.2.2.2.2.2 = []) (h1 : γ.1 = y.cls) (h2 : γ.2.2.2.2.1 = y.name) (hn : Nat.ble (lcA av).length γ.2.2.1 = true) (k : GL γ (rm L mc ms) K 0 0 0 (lcE av γ.2.2.1) [] μ) : Ct y γ L mc ms av μ K := by
  intro l D b base hfl
  have ew : wsG y γ = ws_ y γ.2.1 γ.2.2.1 γ.2.2.2.1 := if_pos hh
  rw [ew]
  refine va_MetF (cc := γ.2.1) (maxL := γ.2.2.1) (ret := γ.2.2.2.1) hy rfl ?_
  intro p e s m args below meth c s₁ B hml hv
  obtain ⟨rfl, hP, hK, hN, hbs⟩ := hv
  have hts := atoms_spec (ws := ws_ y γ.2.1 γ.2.2.1 γ.2.2.2.1) B.pre
  have hts : ∀ w ∈ lw_all, w.before _ s = true := fun w h => hts w (List.mem_cons_of_mem _ h)
  have hl := lv_entry (av.map (rv b base)) (n := γ.2.2.1) (by rw [lg_len _ (rv_cat b base)]; exact Nat.le_of_ble_eq_true hn)
  rw [lg_entry_eq]
  exact k p l e s m _ below meth c D b base s.heap [] _ ⟨B.exec, B.bytes, hml, B.returns, B.notSynchronized, by rw [h2]; exact (name_of_methodNamed B.named B.method).1, by rw [h1]; exact findClass_of_methodNamed B.named, hts, hK, hN, hbs, hfl, Or.inl hh⟩ hP va_S.rf (lcE_ok hl)
theorem j_max (L : Nat) (μ : Mem) (a b : Int32) : Ct yJ10_max gJ10_max (L + 10) 0 0 [.int a, .int b] μ (Rt (some (.int (if a < b then b else a))) μ) := by
  refine Ct.ofF (by decide +kernel) rfl rfl rfl rfl ?_
  refine gl_iload_n dJ10_max_0 rfl ?_
  refine gl_iload_n dJ10_max_1 rfl ?_
  refine gl_icmp_lt (tgt := 9) dJ10_max_2 (by decide) (fun h2 => ?_) (fun h2 => ?_)
  · rw [if_pos h2]
    refine gl_iload_n dJ10_max_9 rfl ?_
    exact gl_iret dJ10_max_10 rfl ⟨rfl, rfl⟩
  · rw [if_neg h2]
    refine gl_iload_n dJ10_max_5 rfl ?_
    refine gl_goto (tgt := 10) dJ10_max_6 (by decide) ?_
    exact gl_iret dJ10_max_10 rfl ⟨rfl, rfl⟩
theorem j_min (L : Nat) (μ : Mem) (a b : Int32) : Ct yJ10_min gJ10_min (L + 10) 0 0 [.int a, .int b] μ (Rt (some (.int (if b < a then b else a))) μ) := by
  refine Ct.ofF (by decide +kernel) rfl rfl rfl rfl ?_
  refine gl_iload_n dJ10_min_0 rfl ?_
  refine gl_iload_n dJ10_min_1 rfl ?_
  refine gl_icmp_gt (tgt := 9) dJ10_min_2 (by decide) (fun h2 => ?_) (fun h2 => ?_)
  · rw [if_pos h2]
    refine gl_iload_n dJ10_min_9 rfl ?_
    exact gl_iret dJ10_min_10 rfl ⟨rfl, rfl⟩
  · rw [if_neg h2]
    refine gl_iload_n dJ10_min_5 rfl ?_
    refine gl_goto (tgt := 10) dJ10_min_6 (by decide) ?_
    exact gl_iret dJ10_min_10 rfl ⟨rfl, rfl⟩
theorem m_lesser (L : Nat) (μ : Mem) (a b : Int32) : Ct yX1_lesser gX1_lesser (L + 10) 0 0 [.int a, .int b] μ (Rt (some (.int (if a < b then a else b))) μ) := by
  refine Ct.of rfl rfl rfl rfl rfl ?_
  refine gl_iload_n dX1_lesser_0 rfl ?_
  refine gl_iload_n dX1_lesser_1 rfl ?_
  refine gl_icmp_ge (tgt := 9) dX1_lesser_2 (by decide) (fun h2 => ?_) (fun h2 => ?_)
  · have h2' : ¬ a < b := k2_nlt h2
    rw [if_neg h2']
    refine gl_iload_n dX1_lesser_9 rfl ?_
    exact gl_iret dX1_lesser_10 rfl ⟨rfl, rfl⟩
  · have h2' : a < b := k2_lt h2
    rw [if_pos h2']
    refine gl_iload_n dX1_lesser_5 rfl ?_
    refine gl_goto (tgt := 10) dX1_lesser_6 (by decide) ?_
    exact gl_iret dX1_lesser_10 rfl ⟨rfl, rfl⟩

