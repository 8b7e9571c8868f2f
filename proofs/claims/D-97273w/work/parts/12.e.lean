/-! THE LAYER GL, fifth part: switches, arraycopy of ints, checkcast that holds, calls of methods with handlers -/
set_option maxRecDepth 100000
section GLe
variable {γ γ' : GG} {R : Room} {K K' : Option Value → Mem → Prop} {cells slots pc L mc ms n ci N index : Nat} {lc : List (Option Value)} {st sts av : List Value} {μ : Mem} {y : MethodName} {T : u_T} {fs : List Value}
theorem gl_mem {μ1 : Mem} (h : μ = μ1) (k : GL γ R K cells slots pc lc st μ1) : GL γ R K cells slots pc lc st μ := by rw [h]; exact k
theorem gl_lcs {lc1 : List (Option Value)} (h : lc = lc1) (k : GL γ R K cells slots pc lc1 st μ) : GL γ R K cells slots pc lc st μ := by rw [h]; exact k
theorem gl_top {v w : Value} (h : v = w) (k : GL γ R K cells slots pc lc (w :: st) μ) : GL γ R K cells slots pc lc (v :: st) μ := by rw [h]; exact k
theorem gl_ldc_w {index : Nat} {v : Int32} (hc : Cond.constant γ.1 index v ∈ lw_all) (hd : decode γ.2.1 pc = .ok (.ldc_w index, 3)) (kk : GL γ R K cells slots (pc + 3) lc (.int v :: st) μ) : GL γ R K cells slots pc lc st μ := fun p l e s m args below meth c D b base H locs ls X P S L => lv_ldcw X.hx X.hb X.own (X.hts _ hc) hd (kk p l e s m args below meth c D b base H locs ls X P S L)
theorem gl_lookup {dflt : Int} {ps : Array (Int × Int)} {len : Nat} {x : Int32} {off : Int} {tgt : Nat} (hd : decode γ.2.1 pc = .ok (.lookupswitch dflt ps, len)) (hp : (ps.toList.zip (ps.toList.drop 1)).all (fun (a, next) => a.1 < next.1) = true) (ho : Op.lookupswitch.offset ps.toList dflt x.toInt = off) (ht : (pc : Int) + off = (tgt : Int)) (kk : GL γ R K cells slots tgt lc st μ) : GL γ R K cells slots pc lc (.int x :: st) μ := fun p l e s m args below meth c D b base H locs ls X P S L => lv_lookup X.hx X.hb hd hp ho ht (kk p l e s m args below meth c D b base H locs ls X P S L)
theorem gl_tableOut {dflt lo hi : Int} {offs : Array Int} {len : Nat} {x : Int32} {tgt : Nat} (hd : decode γ.2.1 pc = .ok (.tableswitch dflt lo hi offs, len)) (h : x.toInt < lo ∨ hi < x.toInt) (ht : (pc : Int) + dflt = (tgt : Int)) (kk : GL γ R K cells slots tgt lc st μ) : GL γ R K cells slots pc lc (.int x :: st) μ := fun p l e s m args below meth c D b base H locs ls X P S L => lv_tableOut X.hx X.hb hd h ht (kk p l e s m args below meth c D b base H locs ls X P S L)
theorem gl_tableIn {dflt lo hi : Int} {offs : Array Int} {len : Nat} {x : Int32} {off : Int} {tgt : Nat} (hd : decode γ.2.1 pc = .ok (.tableswitch dflt lo hi offs, len)) (h1 : ¬ x.toInt < lo) (h2 : ¬ hi < x.toInt) (ho : offs[(x.toInt - lo).toNat]? = some off) (ht : (pc : Int) + off = (tgt : Int)) (kk : GL γ R K cells slots tgt lc st μ) : GL γ R K cells slots pc lc (.int x :: st) μ := fun p l e s m args below meth c D b base H locs ls X P S L => lv_tableIn X.hx X.hb hd h1 h2 ho ht (kk p l e s m args below meth c D b base H locs ls X P S L)
/-- arraycopy of ints that goes well -/
theorem gl_copy {n0 n1 k0 k1 sp dp k : Nat} {f g : Nat → Int32} {isp idp ik : Int32} (hd : decode γ.2.1 pc = .ok (.invokestatic index, 3)) (hlink : Cond.methodLink γ.1 index arraycopyName ∈ lw_all) (hl0 : lk μ n0 = some (.inl (0, k0, f))) (hl1 : lk μ n1 = some (.inl (0, k1, g))) (e1 : isp = nI sp) (e2 : idp = nI dp) (e3 : ik = nI k) (hs : sp + k ≤ k0) (ht : dp + k ≤ k1) (hk0 : k0 < 2147483648) (hk1 : k1 < 2147483648) (hroom : Nat.ble (st.map fun v => v.category).sum 8 = true) (hR : 1 ≤ R.frames ∧ 8 + (nativeFrameWords "java/lang/System" "arraycopy" 5 + 11) ≤ R.locals) (kk : GL γ R K cells slots (pc + 3) lc st (up μ n1 (.inl (0, k1, va_cpy f g sp dp k)))) : GL γ R K cells slots pc lc (.int ik :: .int idp :: .ref n1 :: .int isp :: .ref n0 :: st) μ := fun p l e s m args below meth c D b base H locs ls X P S L => by
  obtain ⟨c0, a0, b0, d0⟩ := P.2.2.2 _ _ hl0
  obtain ⟨c1, a1, b1, d1⟩ := P.2.2.2 _ _ hl1
  obtain ⟨n', hn'⟩ := lk_pos hl1
  subst e1; subst e2; subst e3
  have z1 := nI_pos (show sp < 2 ^ 31 by omega)
  have z2 := nI_pos (show dp < 2 ^ 31 by omega)
  have z3 := nI_pos (show k < 2 ^ 31 by omega)
  have t1 := nI_toInt (show sp < 2 ^ 31 by omega)
  have t2 := nI_toInt (show dp < 2 ^ 31 by omega)
  have t3 := nI_toInt (show k < 2 ^ 31 by omega)
  have y1 := nI_clamp (show sp < 2 ^ 31 by omega)
  have y2 := nI_clamp (show dp < 2 ^ 31 by omega)
  have y3 := nI_clamp (show k < 2 ^ 31 by omega)
  intro T hT X0
  obtain ⟨-, q0, hq0, cm0, hkk0⟩ := b0 k0 (fun j => .int (f j))
  obtain ⟨-, q1, hq1, cm1, hkk1⟩ := b1 k1 (fun j => .int (g j))
  obtain ⟨vm', X', step⟩ := X0.arraycopy X.hx X.own (X.hts _ hlink) (X.hts _ q373) (X.hts _ q372) (X.hts _ q84) (src := ad b base n0) (dst := ad b base n1) (cs := arrV c0 k0 (fun j => .int (f j))) (cd := arrV c1 k1 (fun j => .int (g j))) (srcPos := nI sp) (destPos := nI dp) (n := nI k) (by rw [hT]; exact a0) (by rw [hT]; exact a1)
    (fun _ h => by cases h) (fun _ h => by cases h) (fun h => by cases h) (fun h => by cases h) hq0 hq1 hkk0 hkk1 (by simp [pty]) z1 z2 z3
    (by rw [t1, t3, arrV_size]; omega) (by rw [t2, t3, arrV_size]; omega)
    (fun vm₁ _ i hi => by
      rw [y3] at hi
      have e : (arrV c0 k0 (fun j => .int (f j))).slots.getD ((nI sp).toNatClampNeg + i) .null = .int (f ((nI sp).toNatClampNeg + i)) := by
        rw [Array.getD_eq_getD_getElem?, arrV_read _ _ (by omega)]
        rfl
      refine ⟨?_, ?_⟩
      · rw [e]; rfl
      · rw [e]; exact trivial)
    (g := F0 m pc ls ((Value.int (nI k) :: .int (nI dp) :: .ref n1 :: .int (nI sp) :: .ref n0 :: st).map (rv b base))) rfl (by rw [X.ml]; exact L.1) (rest := st.map (rv b base)) rfl (by rw [X.hb]; exact hd) hR.1 (by rw [rv_cats]; have := Nat.le_of_ble_eq_true hroom; show 2 * 0 + _ + _ ≤ _; have := hR.2; omega)
  have e1 : copied (arrV c0 k0 (fun j => .int (f j))) (arrV c1 k1 (fun j => .int (g j))) (nI sp) (nI dp) (nI k) = arrV c1 k1 (fun j => .int (va_cpy f g sp dp k j)) := by
    have := va_copied (fun z => Value.int z) c0 c1 f g (sp := (nI sp).toNatClampNeg) (dp := (nI dp).toNatClampNeg) (n := (nI k).toNatClampNeg) (n0 := k0) (n1 := k1) (by omega)
    rw [y1, y2, y3] at this
    show (arrV c1 k1 _).storeRun (nI dp).toNatClampNeg ((arrV c0 k0 _).stretch (nI sp).toNatClampNeg (nI k).toNatClampNeg) = _
    rw [y1, y2, y3]
    exact this
  rw [e1] at X' step
  have hlt : ad b base n1 < H.size := (Array.getElem?_eq_some_iff.mp a1).1
  have hheap : ((T.setVm vm').setCell (ad b base n1) (arrV c1 k1 (fun j => .int (va_cpy f g sp dp k j)))).heap = H.setIfInBounds (ad b base n1) (arrV c1 k1 (fun j => .int (va_cpy f g sp dp k j))) := by rw [← hT]; rfl
  have oq : ∀ q : Nat, q ≠ ad b base n1 → (H.setIfInBounds (ad b base n1) (arrV c1 k1 (fun j => .int (va_cpy f g sp dp k j))))[q]? = H[q]? := fun q hq => by simp [Array.getElem?_setIfInBounds, Ne.symm hq]
  have hA : base ≤ ad b base n1 := by rw [hn']; simp only [ad]; omega
  obtain ⟨t, r1, r2⟩ := kk p l e s m args below meth c D b base (H.setIfInBounds (ad b base n1) (arrV c1 k1 (fun j => .int (va_cpy f g sp dp k j)))) _ ls X (P.up hl1 ⟨c1, by simp [Array.getElem?_setIfInBounds, hlt], b1, d1⟩ (by simp) oq) ⟨by simp; exact S.1, fun q g1 g2 => by
      rw [oq q (fun e => g2 (by rw [e]; exact hA))]
      exact S.2.1 q g1 g2, fun q hq => by
      rcases List.mem_append.mp hq with h | h
      · exact S.2.2 q h
      · obtain ⟨z, -, hz⟩ := List.mem_map.mp h
        rw [← hz]
        exact hA⟩ L _ hheap X'
  exact ⟨t, step t r1, r2⟩
/-- a cast that holds: by a word, or to the object's own class -/
theorem gl_cast {C nm : String} (hd : decode γ.2.1 pc = .ok (.checkcast index, 3)) (hl : lk μ n = some (.inr (.inr (ci, fs)))) (hc : vwCl[ci]? = some (C, T, N)) (hlink : Cond.classLink γ.1 index nm ∈ lw_all) (hca : C = nm ∨ Cond.castable C nm ∈ nwL) (kk : GL γ R K cells slots (pc + 3) lc (.ref n :: st) μ) : GL γ R K cells slots pc lc (.ref n :: st) μ := fun p l e s m args below meth c D b base H locs ls X P S L => by
  obtain ⟨r, hr, cell, g1, g2, g3, -⟩ := P.2.2.2 _ _ hl
  have hcls := (X.K.1 ci _ hc).2
  have hrc : ∃ cell : Cell, H[ad b base n]? = some cell ∧ cell.vm.isStatics = false ∧ s.vm.findClass C = some cell.cls := ⟨cell, g1, by rw [g3]; rfl, by rw [g2]; exact hcls.1⟩
  rcases hca with rfl | hca
  · exact va_castS X.hx X.hb X.own (X.hts _ hlink) hcls hrc hd (kk p l e s m args below meth c D b base H locs ls X P S L)
  · exact va_castY X.hx X.hb X.own (X.hts _ hlink) (X.nx.1 _ hca) hrc hd (kk p l e s m args below meth c D b base H locs ls X P S L)
/-- invokevirtual of a method with handlers -/
theorem gl_callVW (hM : Ct y γ' L mc ms (.ref n :: av) μ K') (hd : decode γ.2.1 pc = .ok (.invokevirtual index, 3)) (h1 : Cond.methodLink γ.1 index y ∈ lw_all) (h2 : Cond.instanceMethod y ∈ lw_all) (h3 : Cond.selects y.cls y y ∈ lw_all) (h4 : Cond.initialized y.cls ∈ lw_all) (h5 : Cond.codeWith y γ'.2.1 γ'.2.2.1 γ'.2.2.2.1 γ'.2.2.2.2.2 ∈ lw_all) (hh : γ'.2.2.2.2.2 ≠ []) (hnm : y.cls ≠ "java/lang/invoke/MethodHandle" ∧ y.cls ≠ "java/lang/invoke/VarHandle" ∧ (parseMethodDescriptor y.desc).map (fun d => d.parameters.length) = some av.length) (hl : lk μ n = some (.inr (.inr (ci, fs)))) (hc : vwCl[ci]? = some (y.cls, T, N)) (hst : sts = av.reverse ++ .ref n :: st) (hroom : Nat.ble (st.map fun v => v.category).sum 8 = true) (hR : L + 1 ≤ R.frames ∧ γ'.2.2.1 + 11019 + 64 * L ≤ R.locals) (hf : cells + mc ≤ R.cells ∧ slots + ms ≤ R.slots)
    (kk : ∀ v μ', K' v μ' → GL γ R K (cells + mc) (slots + ms) (pc + 3) lc (v.toList ++ st) μ') : GL γ R K cells slots pc lc sts μ := fun p l e s m args below meth c D b base H locs ls X P S L => by
  have hM := hM l D b base X.fl
  rw [show wsG y γ' = wsW_ y γ'.2.1 γ'.2.2.1 γ'.2.2.2.1 γ'.2.2.2.2.2 from if_neg hh] at hM
  subst hst
  refine glx (a := (Value.ref (ad b base n) :: av.map (rv b base)).toArray) X P S L ?_ kk
  rw [rv_stk]
  have hG : GoodIn lw_all (wsW_ y γ'.2.1 γ'.2.2.1 γ'.2.2.2.1 γ'.2.2.2.2.2) := lw_methW h5
  have hrm := roomL (mc := mc) (ms := ms) hR
  have hB : Back l R p e below s args y 3 8 (PreOf R mc ms (PCt D b base μ (.ref n :: av))) (PostOf (KQ D b base K') mc ms (fun q => base ≤ q)) :=
    va_backW (hh := γ'.2.2.2.2.2) (bytes := γ'.2.1) (maxL := γ'.2.2.1) (ret := γ'.2.2.2.1) hM pct_blind rfl rfl hrm.1 hrm.2 (pay_in X.hts hG) List.mem_cons_self (fun a' U hW => word_at hW (Or.inl (by first | rfl | simp [Cond.onTables, Cond.keeps, Cond.steady])) (X.hts _ h4))
  obtain ⟨r, hr, cellB, g1, g2, g3, -⟩ := P.2.2.2 _ _ hl
  have hoB : cellB.vm.isStatics = false := by rw [g3]; rfl
  have hclB : s.vm.findClass y.cls = some cellB.cls := by rw [g2]; exact (X.K.1 ci _ hc).2.1
  intro T0 hT X0
  obtain ⟨mk, methM, hnamed, hmethM, hstM, habM⟩ := Cond.instanceMethod_spec (X.hts _ h2)
  obtain ⟨m9, methM', cM, hn9, hmethM', -, -, -, -, -, -, hsigM⟩ := Cond.codeWith_spec (X.hts _ h5)
  cases hnamed.symm.trans hn9
  cases hmethM.symm.trans hmethM'
  obtain ⟨c2, r2, m2, q1, q2, q3, q4, kP, hkP, hkPi⟩ := Cond.selects_spec (X.hts _ h3)
  cases hclB.symm.trans q1
  cases (State.methodFound?_of_named hnamed ⟨hnm.1, hnm.2.1⟩).symm.trans q2
  cases hnamed.symm.trans q3
  have hselP : selectMethod e.platform s.vm cellB.cls mk = .method mk := by rw [Launch.admits_selectMethod X0.admits]; exact q4
  have hlen : (av.map (rv b base)).length = methM.sig.parameters.length := by
    have h := hnm.2.2
    rw [hsigM] at h
    have := Option.some.inj h
    rw [List.length_map]
    exact this.symm
  obtain ⟨vm₁, X₁, hstep₁⟩ := X0.invokevirtual X.hx X.own (X.hts _ h1) hnamed hmethM hstM hkP hkPi ⟨hnm.1, hnm.2.1⟩ (a := ad b base n) (cell := cellB) (by rw [hT]; exact g1)
    (fun z h => by rw [h] at hoB; cases hoB) hselP hmethM habM hkP hkPi (g := F0 m pc ls ((av.map (rv b base)).reverse ++ rv b base (.ref n) :: st.map (rv b base))) rfl (argsL := av.map (rv b base)) (rest := st.map (rv b base)) hlen rfl (by rw [X.hb]; exact hd)
  obtain ⟨v, ⟨U', l2, c2, s2⟩, X', ⟨g', mk', t, Lo, e1, e2, hq, k1, hL, k2, k3⟩, stp⟩ := hB m meth c ⟨T0.setVm vm₁, locs, cells, slots⟩ { (F0 m pc ls ((av.map (rv b base)).reverse ++ rv b base (.ref n) :: st.map (rv b base))) with stack := st.map (rv b base) } (.invokevirtual index) mk (Value.ref (ad b base n) :: av.map (rv b base)).toArray X₁ rfl (by rw [X.ml]; exact L.1) (by rw [X.hb]; exact hd) (room8 hroom) (X₁.named hnamed) ⟨hf.1, hf.2, pct_in X P S _ (T0.setVm vm₁) hT X₁.warmed⟩
  dsimp only [Pt.U, Pt.locs, Pt.cells, Pt.slots] at X' e1 e2 k1 k2 k3 stp
  subst k1; subst k2; subst k3
  exact ⟨v, (T0.setVm vm₁).calling g' mk' (Value.ref (ad b base n) :: av.map (rv b base)).toArray, t, U', Lo, hT, X', hL, e1, e2, hq, fun target h => hstep₁ _ fun acts => by rw [doInvoke_state]; exact stp.trans h⟩
end GLe

