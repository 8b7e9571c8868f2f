/-! cards by their places in the library: what they tell; fields read and put -/
set_option maxRecDepth 100000
section GW
variable {γ : GG} {K : Option Value → Mem → Prop} {R : Room} {cells slots pc L0 a b : Nat} {lc : List (Option Value)} {st : List Value} {o : OX} {x : XY} {τ : Nat → Nat} {w : Nat → Int32} {n m t c k : Nat}
theorem RL.cell (hX : RL o τ x w n m t) (hL : Lb w n m t) (hc : c < n) (e : x.2.2.2.1 5 c = some k) : ∃ kd, kd ≤ 5 ∧ w (3 + c) = nI kd ∧ ix (w (3 + c)) = kd ∧ (33 ≤ k ∧ k < o.1) ∧ τ k = 30 + c ∧ lk (mX o x) k = some (.inr (.inr (2 + kd, cdO (nI c) (w (10 + c)) (w (17 + c)) (w (24 + c))))) := by
  obtain ⟨k', e', hO⟩ := hX.card c hc
  rw [e] at e'
  cases e'
  obtain ⟨kd, hkd, e3⟩ := hL.kind c (by have := hL.c7; omega)
  have e4 : ix (w (3 + c)) = kd := by rw [e3]; exact ix_nI (by omega)
  refine ⟨kd, hkd, e3, e4, hO.1, hO.2.1, ?_⟩
  have hl := hO.lk (x := x)
  rw [e4] at hl
  exact hl
theorem gl_kindW (hX : RL o τ x w n m t) (hL : Lb w n m t) (hc : c < n) (e : x.2.2.2.1 5 c = some k) (hd : decode γ.2.1 pc = .ok (.invokevirtual 208, 3)) (hγ : Cond.methodLink γ.1 208 yX2_kind ∈ lw_all) (hL0 : 14 ≤ L0) (hroom : Nat.ble (st.map fun v => v.category).sum 8 = true) (hf : cells ≤ a ∧ slots ≤ b) (kk : GL γ (rm L0 a b) K cells slots (pc + 3) lc (.int (w (3 + c)) :: st) (mX o x)) : GL γ (rm L0 a b) K cells slots pc lc (.ref k :: st) (mX o x) := by
  obtain ⟨kd, hkd, e3, e4, -, -, hl⟩ := hX.cell hL hc e
  refine gl_kindC hd hγ hL0 hkd hl hroom hf ?_
  rw [← e3]
  exact kk
theorem gl_saysW (hX : RL o τ x w n m t) (hL : Lb w n m t) (hc : c < n) (e : x.2.2.2.1 5 c = some k) (hd : decode γ.2.1 pc = .ok (.invokevirtual 202, 3)) (hγ : Cond.methodLink γ.1 202 yX2_says ∈ lw_all) (hL0 : 14 ≤ L0) (hroom : Nat.ble (st.map fun v => v.category).sum 8 = true) (hf : cells ≤ a ∧ slots ≤ b) (kk : GL γ (rm L0 a b) K cells slots (pc + 3) lc (.int (w (10 + c)) :: st) (mX o x)) : GL γ (rm L0 a b) K cells slots pc lc (.ref k :: st) (mX o x) := by
  obtain ⟨kd, hkd, e3, e4, -, -, hl⟩ := hX.cell hL hc e
  refine gl_saysC hd hγ hL0 hkd hl hroom hf ?_
  exact kk
theorem gl_meansW (hX : RL o τ x w n m t) (hL : Lb w n m t) (hc : c < n) (e : x.2.2.2.1 5 c = some k) (hd : decode γ.2.1 pc = .ok (.invokevirtual 188, 3)) (hγ : Cond.methodLink γ.1 188 yX2_means ∈ lw_all) (hL0 : 14 ≤ L0) (hroom : Nat.ble (st.map fun v => v.category).sum 8 = true) (hf : cells ≤ a ∧ slots ≤ b) (kk : GL γ (rm L0 a b) K cells slots (pc + 3) lc (.int (mns w c) :: st) (mX o x)) : GL γ (rm L0 a b) K cells slots pc lc (.ref k :: st) (mX o x) := by
  obtain ⟨kd, hkd, e3, e4, -, -, hl⟩ := hX.cell hL hc e
  refine gl_meansC hd hγ hL0 hkd hl hroom hf ?_
  rw [← e3]
  exact kk
theorem gl_isW {v : Int32} (hX : RL o τ x w n m t) (hL : Lb w n m t) (hc : c < n) (e : x.2.2.2.1 5 c = some k) (hd : decode γ.2.1 pc = .ok (.invokevirtual 185, 3)) (hγ : Cond.methodLink γ.1 185 yX2_is ∈ lw_all) (hL0 : 14 ≤ L0) (hroom : Nat.ble (st.map fun v => v.category).sum 8 = true) (hf : cells ≤ a ∧ slots ≤ b) (kk : GL γ (rm L0 a b) K cells slots (pc + 3) lc (.int (bI (isOf (w (3 + c)) v)) :: st) (mX o x)) : GL γ (rm L0 a b) K cells slots pc lc (.int v :: .ref k :: st) (mX o x) := by
  obtain ⟨kd, hkd, e3, e4, -, -, hl⟩ := hX.cell hL hc e
  refine gl_isC hd hγ hL0 hkd hl hroom hf ?_
  rw [← e3]
  exact kk
theorem gl_shelfW {index : Nat} {host : String} (hX : RL o τ x w n m t) (hL : Lb w n m t) (hc : c < n) (e : x.2.2.2.1 5 c = some k) (hd : decode γ.2.1 pc = .ok (.getfield index, 3)) (hγ : Cond.fieldLinkNest γ.1 index "LostQuestions$Card" "shelf" "I" host ∈ nwL) (kk : GL γ R K cells slots (pc + 3) lc (.int (w (17 + c)) :: st) (mX o x)) : GL γ R K cells slots pc lc (.ref k :: st) (mX o x) := by
  obtain ⟨kd, hkd, e3, e4, -, -, hl⟩ := hX.cell hL hc e
  match kd, hkd, hl with
  | 0, _, hl => exact gl_getN (k := 2) hd hl (rfl : vwCl[2]? = some (RX2, TX2, 4)) in_X2 (by decide) hγ rfl kk
  | 1, _, hl => exact gl_getN (k := 2) hd hl (rfl : vwCl[3]? = some (RX3, TX3, 4)) in_X3 (by decide) hγ rfl kk
  | 2, _, hl => exact gl_getN (k := 2) hd hl (rfl : vwCl[4]? = some (RX4, TX4, 4)) in_X4 (by decide) hγ rfl kk
  | 3, _, hl => exact gl_getN (k := 2) hd hl (rfl : vwCl[5]? = some (RX5, TX5, 4)) in_X5 (by decide) hγ rfl kk
  | 4, _, hl => exact gl_getN (k := 2) hd hl (rfl : vwCl[6]? = some (RX6, TX6, 4)) in_X6 (by decide) hγ rfl kk
  | 5, _, hl => exact gl_getN (k := 2) hd hl (rfl : vwCl[7]? = some (RX7, TX7, 4)) in_X7 (by decide) hγ rfl kk
theorem gl_ageFW {index : Nat} {host : String} (hX : RL o τ x w n m t) (hL : Lb w n m t) (hc : c < n) (e : x.2.2.2.1 5 c = some k) (hd : decode γ.2.1 pc = .ok (.getfield index, 3)) (hγ : Cond.fieldLinkNest γ.1 index "LostQuestions$Card" "age" "I" host ∈ nwL) (kk : GL γ R K cells slots (pc + 3) lc (.int (w (24 + c)) :: st) (mX o x)) : GL γ R K cells slots pc lc (.ref k :: st) (mX o x) := by
  obtain ⟨kd, hkd, e3, e4, -, -, hl⟩ := hX.cell hL hc e
  match kd, hkd, hl with
  | 0, _, hl => exact gl_getN (k := 3) hd hl (rfl : vwCl[2]? = some (RX2, TX2, 4)) in_X2 (by decide) hγ rfl kk
  | 1, _, hl => exact gl_getN (k := 3) hd hl (rfl : vwCl[3]? = some (RX3, TX3, 4)) in_X3 (by decide) hγ rfl kk
  | 2, _, hl => exact gl_getN (k := 3) hd hl (rfl : vwCl[4]? = some (RX4, TX4, 4)) in_X4 (by decide) hγ rfl kk
  | 3, _, hl => exact gl_getN (k := 3) hd hl (rfl : vwCl[5]? = some (RX5, TX5, 4)) in_X5 (by decide) hγ rfl kk
  | 4, _, hl => exact gl_getN (k := 3) hd hl (rfl : vwCl[6]? = some (RX6, TX6, 4)) in_X6 (by decide) hγ rfl kk
  | 5, _, hl => exact gl_getN (k := 3) hd hl (rfl : vwCl[7]? = some (RX7, TX7, 4)) in_X7 (by decide) hγ rfl kk
theorem gl_shelfP {v : Int32} {index : Nat} {host : String} (hX : RL o τ x w n m t) (hL : Lb w n m t) (hc : c < n) (e : x.2.2.2.1 5 c = some k) (hd : decode γ.2.1 pc = .ok (.putfield index, 3)) (hγ : Cond.fieldLinkNest γ.1 index "LostQuestions$Card" "shelf" "I" host ∈ nwL) (kk : GL γ R K cells slots (pc + 3) lc st (mX (oP o k (.inr (.inr (2 + ix (w (3 + c)), cdO (nI c) (w (10 + c)) v (w (24 + c)))))) x)) : GL γ R K cells slots pc lc (.int v :: .ref k :: st) (mX o x) := by
  obtain ⟨kd, hkd, e3, e4, h33, -, hl⟩ := hX.cell hL hc e
  rw [← up_hi h33.1, e4] at kk
  match kd, hkd, hl, kk with
  | 0, _, hl, kk => exact gl_putN (k := 2) hd hl (rfl : vwCl[2]? = some (RX2, TX2, 4)) in_X2 tyX2 tyX2_ok nmX2 (by decide) rfl hγ (fun _ _ => ⟨rfl, rfl⟩) rfl kk
  | 1, _, hl, kk => exact gl_putN (k := 2) hd hl (rfl : vwCl[3]? = some (RX3, TX3, 4)) in_X3 tyX3 tyX3_ok nmX3 (by decide) rfl hγ (fun _ _ => ⟨rfl, rfl⟩) rfl kk
  | 2, _, hl, kk => exact gl_putN (k := 2) hd hl (rfl : vwCl[4]? = some (RX4, TX4, 4)) in_X4 tyX4 tyX4_ok nmX4 (by decide) rfl hγ (fun _ _ => ⟨rfl, rfl⟩) rfl kk
  | 3, _, hl, kk => exact gl_putN (k := 2) hd hl (rfl : vwCl[5]? = some (RX5, TX5, 4)) in_X5 tyX5 tyX5_ok nmX5 (by decide) rfl hγ (fun _ _ => ⟨rfl, rfl⟩) rfl kk
  | 4, _, hl, kk => exact gl_putN (k := 2) hd hl (rfl : vwCl[6]? = some (RX6, TX6, 4)) in_X6 tyX6 tyX6_ok nmX6 (by decide) rfl hγ (fun _ _ => ⟨rfl, rfl⟩) rfl kk
  | 5, _, hl, kk => exact gl_putN (k := 2) hd hl (rfl : vwCl[7]? = some (RX7, TX7, 4)) in_X7 tyX7 tyX7_ok nmX7 (by decide) rfl hγ (fun _ _ => ⟨rfl, rfl⟩) rfl kk
theorem gl_ageP {v : Int32} {index : Nat} {host : String} (hX : RL o τ x w n m t) (hL : Lb w n m t) (hc : c < n) (e : x.2.2.2.1 5 c = some k) (hd : decode γ.2.1 pc = .ok (.putfield index, 3)) (hγ : Cond.fieldLinkNest γ.1 index "LostQuestions$Card" "age" "I" host ∈ nwL) (kk : GL γ R K cells slots (pc + 3) lc st (mX (oP o k (.inr (.inr (2 + ix (w (3 + c)), cdO (nI c) (w (10 + c)) (w (17 + c)) v)))) x)) : GL γ R K cells slots pc lc (.int v :: .ref k :: st) (mX o x) := by
  obtain ⟨kd, hkd, e3, e4, h33, -, hl⟩ := hX.cell hL hc e
  rw [← up_hi h33.1, e4] at kk
  match kd, hkd, hl, kk with
  | 0, _, hl, kk => exact gl_putN (k := 3) hd hl (rfl : vwCl[2]? = some (RX2, TX2, 4)) in_X2 tyX2 tyX2_ok nmX2 (by decide) rfl hγ (fun _ _ => ⟨rfl, rfl⟩) rfl kk
  | 1, _, hl, kk => exact gl_putN (k := 3) hd hl (rfl : vwCl[3]? = some (RX3, TX3, 4)) in_X3 tyX3 tyX3_ok nmX3 (by decide) rfl hγ (fun _ _ => ⟨rfl, rfl⟩) rfl kk
  | 2, _, hl, kk => exact gl_putN (k := 3) hd hl (rfl : vwCl[4]? = some (RX4, TX4, 4)) in_X4 tyX4 tyX4_ok nmX4 (by decide) rfl hγ (fun _ _ => ⟨rfl, rfl⟩) rfl kk
  | 3, _, hl, kk => exact gl_putN (k := 3) hd hl (rfl : vwCl[5]? = some (RX5, TX5, 4)) in_X5 tyX5 tyX5_ok nmX5 (by decide) rfl hγ (fun _ _ => ⟨rfl, rfl⟩) rfl kk
  | 4, _, hl, kk => exact gl_putN (k := 3) hd hl (rfl : vwCl[6]? = some (RX6, TX6, 4)) in_X6 tyX6 tyX6_ok nmX6 (by decide) rfl hγ (fun _ _ => ⟨rfl, rfl⟩) rfl kk
  | 5, _, hl, kk => exact gl_putN (k := 3) hd hl (rfl : vwCl[7]? = some (RX7, TX7, 4)) in_X7 tyX7 tyX7_ok nmX7 (by decide) rfl hγ (fun _ _ => ⟨rfl, rfl⟩) rfl kk
end GW

