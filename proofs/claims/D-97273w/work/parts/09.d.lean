/-! THE LAYER GL, fourth part: contracts and calls -/
set_option maxRecDepth 100000
def rm (L mc ms : Nat) : Room := { frames := L, cells := mc, slots := ms, locals := 11000 + 64 * L }
def PCt (D : va_G) (b base : Nat) (μ : Mem) (av : List Value) : Array Value → State → Prop := va_Pc (av.map (rv b base)) (fun U => RP U D b base μ U.heap ∧ va_K D vwCl [] U ∧ NX base U ∧ base ≤ U.heap.size)
/-- the words of a method: with handlers or without -/
def wsG (y : MethodName) (γ : GG) : List Cond := if γ.2.2.2.2.2 = [] then ws_ y γ.2.1 γ.2.2.1 γ.2.2.2.1 else wsW_ y γ.2.1 γ.2.2.1 γ.2.2.2.1 γ.2.2.2.2.2
/-- THE CONTRACT: from the memory μ with the arguments av, y returns, and K holds of its answer and of the memory behind it; L: its level, mc cells of ms slots are new at most -/
def Ct (y : MethodName) (γ : GG) (L mc ms : Nat) (av : List Value) (μ : Mem) (K : Option Value → Mem → Prop) : Prop :=
  ∀ (l : Launch) (D : va_G) (b base : Nat), l.flags = flags0 → Met l y (wsG y γ) (rm L mc ms) (PCt D b base μ av) (KQ D b base K) mc ms (fun q => base ≤ q)
def lcA : List Value → List (Option Value)
  | [] => []
  | v :: vs => if v.category = 2 then some v :: none :: lcA vs else some v :: lcA vs
def lcE (av : List Value) (n : Nat) : List (Option Value) := lcA av ++ List.replicate (n - (lcA av).length) none
theorem lcA_args (f : Value → Value) (hf : ∀ v, (f v).category = v.category) : ∀ (av : List Value) (o i : Nat) (v : Value), (lcA av)[i]? = some (some v) → (o + i, f v) ∈ lv_args o (av.map f)
  | [], o, i, v, h => by simp [lcA] at h
  | a :: av, o, i, v, h => by
    simp only [lcA] at h
    simp only [List.map_cons, lv_args, hf]
    by_cases hc : a.category = 2
    · rw [if_pos hc] at h
      rw [if_pos hc]
      match i, h with
      | 0, h => cases h; exact List.mem_cons_self
      | 1, h => cases h
      | i + 2, h =>
        have := lcA_args f hf av (o + 2) i v h
        rw [show o + (i + 2) = o + 2 + i by omega]
        exact List.mem_cons_of_mem _ this
    · rw [if_neg hc] at h
      rw [if_neg hc]
      match i, h with
      | 0, h => cases h; exact List.mem_cons_self
      | i + 1, h =>
        have := lcA_args f hf av (o + 1) i v h
        rw [show o + (i + 1) = o + 1 + i by omega]
        exact List.mem_cons_of_mem _ this
theorem lcE_ok {b base n : Nat} {av : List Value} {ls : Array Slot} (h : lv_has ls n (lv_args 0 (av.map (rv b base)))) : lcOk ls n (rv b base) (lcE av n) := by
  refine ⟨h.1, h.2.1, fun i v hv => ?_⟩
  unfold lcE at hv
  by_cases hi : i < (lcA av).length
  · rw [List.getElem?_append_left hi] at hv
    have := h.2.2 _ (lcA_args (rv b base) (rv_cat b base) av 0 i v hv)
    rwa [Nat.zero_add] at this
  · rw [List.getElem?_append_right (by omega)] at hv
    rw [List.getElem?_replicate] at hv
    by_cases h2 : i - (lcA av).length < n - (lcA av).length
    · rw [if_pos h2] at hv; cases hv
    · rw [if_neg h2] at hv; cases hv
theorem lg_len (f : Value → Value) (hf : ∀ v, (f v).category = v.category) : ∀ av : List Value, (lg_sl (av.map f)).length = (lcA av).length
  | [] => rfl
  | a :: av => by
    have ih := lg_len f hf av
    have e : lg_sl ((a :: av).map f) = (if (f a).category = 2 then [Slot.val (f a), .second] else [.val (f a)]) ++ lg_sl (av.map f) := rfl
    rw [e, hf, lcA]
    by_cases hc : a.category = 2
    · rw [if_pos hc, if_pos hc, List.length_append, ih]; simp; omega
    · rw [if_neg hc, if_neg hc, List.length_append, ih]; simp; omega
/-- a contract out of the walk of its body -/
theorem Ct.of {y : MethodName} {γ : GG} {L mc ms : Nat} {av : List Value} {μ : Mem} {K : Option Value → Mem → Prop} (hy : plainName y.cls = true) (hh : γ.2.2.2.2.2 = []) (h1 : γ.1 = y.cls) (h2 : γ.2.2.2.2.1 = y.name) (hn : Nat.ble (lcA av).length γ.2.2.1 = true) (k : GL γ (rm L mc ms) K 0 0 0 (lcE av γ.2.2.1) [] μ) : Ct y γ L mc ms av μ K := by
  intro l D b base hfl
  have ew : wsG y γ = ws_ y γ.2.1 γ.2.2.1 γ.2.2.2.1 := if_pos hh
  rw [ew]
  refine Met.ofW (cc := γ.2.1) (maxL := γ.2.2.1) (ret := γ.2.2.2.1) hy rfl ?_
  intro p e s m args below meth c s₁ B hml hv
  obtain ⟨rfl, hP, hK, hN, hbs⟩ := hv
  have hts := atoms_spec (ws := ws_ y γ.2.1 γ.2.2.1 γ.2.2.2.1) B.pre
  have hts : ∀ w ∈ lw_all, w.before _ s = true := fun w h => hts w (List.mem_cons_of_mem _ h)
  have hl := lv_entry (av.map (rv b base)) (n := γ.2.2.1) (by rw [lg_len _ (rv_cat b base)]; exact Nat.le_of_ble_eq_true hn)
  rw [lg_entry_eq]
  exact k p l e s m _ below meth c D b base s.heap [] _ ⟨B.exec, B.bytes, hml, B.returns, B.notSynchronized, by rw [h2]; exact (name_of_methodNamed B.named B.method).1, by rw [h1]; exact findClass_of_methodNamed B.named, hts, hK, hN, hbs, hfl, Or.inl hh⟩ hP va_S.rf (lcE_ok hl)
/-- .. of a method with handlers -/
theorem Ct.ofW {y : MethodName} {γ : GG} {L mc ms : Nat} {av : List Value} {μ : Mem} {K : Option Value → Mem → Prop} (hy : plainName y.cls = true) (hh : γ.2.2.2.2.2 ≠ []) (h1 : γ.1 = y.cls) (h2 : γ.2.2.2.2.1 = y.name) (hn : Nat.ble (lcA av).length γ.2.2.1 = true) (k : GL γ (rm L mc ms) K 0 0 0 (lcE av γ.2.2.1) [] μ) : Ct y γ L mc ms av μ K := by
  intro l D b base hfl
  have ew : wsG y γ = wsW_ y γ.2.1 γ.2.2.1 γ.2.2.2.1 γ.2.2.2.2.2 := if_neg hh
  rw [ew]
  refine va_MetW (cc := γ.2.1) (maxL := γ.2.2.1) (ret := γ.2.2.2.1) hy rfl ?_
  intro p e s m args below meth c s₁ B hml hv
  obtain ⟨rfl, hP, hK, hN, hbs⟩ := hv
  have hts0 := atoms_spec (ws := wsW_ y γ.2.1 γ.2.2.1 γ.2.2.2.1 γ.2.2.2.2.2) B.pre
  have hts : ∀ w ∈ lw_all, w.before _ s = true := fun w h => hts0 w (List.mem_cons_of_mem _ h)
  have hex : c.exceptionTable.toList.map (fun h => (h.startPc, h.endPc, h.handlerPc, h.catchType)) = γ.2.2.2.2.2 := by
    obtain ⟨m9, meth9, c9, hn9, g1, g2, -, -, g3, -⟩ := Cond.codeWith_spec (hts0 _ List.mem_cons_self)
    cases B.named.symm.trans hn9
    cases B.method.symm.trans g1
    cases (Stand.of_body B).code.symm.trans g2
    exact g3
  have hl := lv_entry (av.map (rv b base)) (n := γ.2.2.1) (by rw [lg_len _ (rv_cat b base)]; exact Nat.le_of_ble_eq_true hn)
  rw [lg_entry_eq]
  exact k p l e s m _ below meth c D b base s.heap [] _ ⟨B.exec, B.bytes, hml, B.returns, B.notSynchronized, by rw [h2]; exact (name_of_methodNamed B.named B.method).1, by rw [h1]; exact findClass_of_methodNamed B.named, hts, hK, hN, hbs, hfl, Or.inr hex⟩ hP va_S.rf (lcE_ok hl)
theorem Ct.mono {y : MethodName} {γ : GG} {L mc ms : Nat} {av : List Value} {μ : Mem} {K K' : Option Value → Mem → Prop} (h : Ct y γ L mc ms av μ K) (hK : ∀ v μ', K v μ' → K' v μ') : Ct y γ L mc ms av μ K' := by
  intro l D b base hfl
  have := h l D b base hfl
  intro p e a1 a2 a3 s m args below f1 f2 f3 f4
  obtain ⟨k, o, g1, g2, g3, ⟨⟨v, μ', q1, q2, q3⟩, q4⟩, q5⟩ := this p e a1 a2 a3 s m args below f1 f2 f3 f4
  exact ⟨k, o, g1, g2, g3, ⟨⟨v, μ', q1, hK _ _ q2, q3⟩, q4⟩, q5⟩
theorem pct_blind {D : va_G} {b base : Nat} {μ : Mem} {av : List Value} : FrameBlind (PCt D b base μ av) := by
  rintro a U g mk ⟨q0, qP, qK, qN, qB⟩
  have hA : U.vm.Alike (U.calling g mk a).vm := Vm.Alike.refl U.vm
  have hh : (U.calling g mk a).heap = U.heap := rfl
  exact ⟨q0, qP.moved hA, va_K.moved hA qK, qN.moved (State.WarmedH.refl U) (fun _ _ _ => rfl), by rw [hh]; exact qB⟩
section GLc
variable {γ : GG} {R : Room} {K : Option Value → Mem → Prop} {cells slots pc : Nat} {lc : List (Option Value)} {st sts : List Value} {μ : Mem}
variable {p : Program} {l : Launch} {e : Env} {s : State} {m : MethodId} {args : Array Value} {below : List Frame} {meth : Method} {c : Code} {D : va_G} {b base : Nat} {H : Heap} {locs : List Loc} {ls : Array Slot}
theorem pct_in (X : GX γ D b base p l s m args meth c) (P : RP s D b base μ H) (S : va_S (fun q => base ≤ q) s.heap H locs) (av : List Value) (U : State) (hU : U.heap = H) (hW : s.WarmedH U.vm) : PCt D b base μ av (av.map (rv b base)).toArray U := by
  refine ⟨rfl, by rw [hU]; exact P.moved hW.alike, va_K.moved hW.alike X.K, X.nx.moved hW (fun a h1 h2 => by rw [hU]; exact S.2.1 a h1 h2), ?_⟩
  rw [hU]; exact Nat.le_trans X.bs S.1
theorem rv_optl (v : Option Value) : (v.map (rv b base)).toList = v.toList.map (rv b base) := by cases v <;> rfl
/-- behind a call -/
theorem glx {mc ms : Nat} {K' : Option Value → Mem → Prop} {a : Array Value} (X : GX γ D b base p l s m args meth c) (P : RP s D b base μ H) (S : va_S (fun q => base ≤ q) s.heap H locs) (L : lcOk ls γ.2.2.1 (rv b base) lc) (hr : va_Run p l e R s m args below meth c H locs cells slots mc ms (F0 m pc ls (sts.map (rv b base))) (st.map (rv b base)) (KQ D b base K' a) (fun q => base ≤ q))
    (kk : ∀ v μ', K' v μ' → GL γ R K (cells + mc) (slots + ms) (pc + 3) lc (v.toList ++ st) μ') : W p l e R s m args below meth c H locs cells slots (MQ below (KQ D b base K) args s R.cells R.slots (fun q => base ≤ q)) (F0 m pc ls (sts.map (rv b base))) := by
  intro T hT X0
  obtain ⟨v, st₀, t, T', Lo, h0, X', hL, e1, e2, ⟨⟨v', μ', q1, q2, q3⟩, hz, hk⟩, stp⟩ := hr T hT X0
  cases q1
  rw [h0] at hz hk
  have hal : t.vm.Alike s.vm := by rw [← e2]; exact X'.warmed.alike.symm
  have hS' : va_S (fun q => base ≤ q) s.heap T'.heap (locs ++ Lo) := ⟨Nat.le_trans S.1 (by rw [e1]; exact hz), fun q h1 h2 => by rw [e1, hk q (Nat.lt_of_lt_of_le h1 S.1) h2]; exact S.2.1 q h1 h2, fun q hq => by
    rcases List.mem_append.mp hq with h | h
    · exact S.2.2 q h
    · exact hL q h⟩
  obtain ⟨t2, a1, b1⟩ := kk v' μ' q2 p l e s m args below meth c D b base T'.heap (locs ++ Lo) ls X (by rw [e1]; exact q3.moved hal) hS' L T' rfl X'
  rw [List.map_append, ← rv_optl] at a1
  exact ⟨t2, stp t2 a1, b1⟩
end GLc
section GLd
variable {γ γ' : GG} {R : Room} {K K' : Option Value → Mem → Prop} {cells slots pc L mc ms n ci N index : Nat} {lc : List (Option Value)} {st sts av : List Value} {μ : Mem} {y : MethodName} {T : u_T} {fs : List Value}
theorem rv_stk {b base : Nat} (av st : List Value) (v : Value) : (av.reverse ++ v :: st).map (rv b base) = (av.map (rv b base)).reverse ++ rv b base v :: st.map (rv b base) := by simp
theorem rv_stk0 {b base : Nat} (av st : List Value) : (av.reverse ++ st).map (rv b base) = (av.map (rv b base)).reverse ++ st.map (rv b base) := by simp
theorem room8 {m : MethodId} {ls : Array Slot} {g : List Value} {b base : Nat} (h : Nat.ble (st.map fun v => v.category).sum 8 = true) : 2 * (F0 m pc ls g).monitorRoom + ((st.map (rv b base)).map fun v => v.category).sum ≤ 8 := by
  rw [rv_cats]
  exact lv_room (Nat.le_of_ble_eq_true h)
theorem roomL {R : Room} (hR : L + 1 ≤ R.frames ∧ γ'.2.2.1 + 11019 + 64 * L ≤ R.locals) : (rm L mc ms).frames + 1 ≤ R.frames ∧ 8 + (γ'.2.2.1 + 11) + (rm L mc ms).locals ≤ R.locals := ⟨hR.1, by have := hR.2; show 8 + (γ'.2.2.1 + 11) + (11000 + 64 * L) ≤ R.locals; omega⟩
theorem rmOk {L L0 a b : Nat} {γ' : GG} (h : L + 1 ≤ L0) (h2 : Nat.ble γ'.2.2.1 45 = true) : L + 1 ≤ (rm L0 a b).frames ∧ γ'.2.2.1 + 11019 + 64 * L ≤ (rm L0 a b).locals := by
  have := Nat.le_of_ble_eq_true h2
  exact ⟨h, by show γ'.2.2.1 + 11019 + 64 * L ≤ 11000 + 64 * L0; omega⟩
/-- invokevirtual of a method that is the receiver's own -/
theorem gl_callV (hM : Ct y γ' L mc ms (.ref n :: av) μ K') (hd : decode γ.2.1 pc = .ok (.invokevirtual index, 3)) (h1 : Cond.methodLink γ.1 index y ∈ lw_all) (h2 : Cond.instanceMethod y ∈ lw_all) (h3 : Cond.selects y.cls y y ∈ lw_all) (h4 : Cond.initialized y.cls ∈ lw_all) (h5 : Cond.code y γ'.2.1 γ'.2.2.1 γ'.2.2.2.1 ∈ lw_all) (hh : γ'.2.2.2.2.2 = []) (hnm : y.cls ≠ "java/lang/invoke/MethodHandle" ∧ y.cls ≠ "java/lang/invoke/VarHandle" ∧ (parseMethodDescriptor y.desc).map (fun d => d.parameters.length) = some av.length) (hl : lk μ n = some (.inr (.inr (ci, fs)))) (hc : vwCl[ci]? = some (y.cls, T, N)) (hst : sts = av.reverse ++ .ref n :: st) (hroom : Nat.ble (st.map fun v => v.category).sum 8 = true) (hR : L + 1 ≤ R.frames ∧ γ'.2.2.1 + 11019 + 64 * L ≤ R.locals) (hf : cells + mc ≤ R.cells ∧ slots + ms ≤ R.slots)
    (kk : ∀ v μ', K' v μ' → GL γ R K (cells + mc) (slots + ms) (pc + 3) lc (v.toList ++ st) μ') : GL γ R K cells slots pc lc sts μ := fun p l e s m args below meth c D b base H locs ls X P S L => by
  have hM := hM l D b base X.fl
  rw [show wsG y γ' = ws_ y γ'.2.1 γ'.2.2.1 γ'.2.2.2.1 from if_pos hh] at hM
  subst hst
  refine glx (a := (Value.ref (ad b base n) :: av.map (rv b base)).toArray) X P S L ?_ kk
  rw [rv_stk]
  refine va_runV (As := av.map (rv b base)) (b := ad b base n) (C := y.cls) X.fix hM (cwV av.length X.hts (lw_V h1 h2 h3 h4 h5) rfl rfl rfl ⟨rfl, hnm⟩ (roomL hR)) ⟨pct_blind, ?_, fun U hU hW => pct_in X P S _ U hU hW⟩ rfl (by simp) L.1 rfl (room8 hroom) hd hf
  obtain ⟨r, hr, cell, g1, g2, g3, -⟩ := P.2.2.2 _ _ hl
  exact ⟨cell, g1, by rw [g3]; rfl, by rw [g2]; exact (X.K.1 ci _ hc).2.1⟩
/-- invokestatic -/
theorem gl_callS (hM : Ct y γ' L mc ms av μ K') (hd : decode γ.2.1 pc = .ok (.invokestatic index, 3)) (h1 : Cond.methodLink γ.1 index y ∈ lw_all) (h2 : Cond.static y ∈ lw_all) (h3 : Cond.initialized y.cls ∈ lw_all) (h4 : Cond.code y γ'.2.1 γ'.2.2.1 γ'.2.2.2.1 ∈ lw_all) (hh : γ'.2.2.2.2.2 = []) (hnm : y.cls ≠ "java/lang/invoke/MethodHandle" ∧ y.cls ≠ "java/lang/invoke/VarHandle" ∧ (parseMethodDescriptor y.desc).map (fun d => d.parameters.length) = some av.length) (hst : sts = av.reverse ++ st) (hroom : Nat.ble (st.map fun v => v.category).sum 8 = true) (hR : L + 1 ≤ R.frames ∧ γ'.2.2.1 + 11019 + 64 * L ≤ R.locals) (hf : cells + mc ≤ R.cells ∧ slots + ms ≤ R.slots)
    (kk : ∀ v μ', K' v μ' → GL γ R K (cells + mc) (slots + ms) (pc + 3) lc (v.toList ++ st) μ') : GL γ R K cells slots pc lc sts μ := fun p l e s m args below meth c D b base H locs ls X P S L => by
  have hM := hM l D b base X.fl
  rw [show wsG y γ' = ws_ y γ'.2.1 γ'.2.2.1 γ'.2.2.2.1 from if_pos hh] at hM
  subst hst
  refine glx (a := (av.map (rv b base)).toArray) X P S L ?_ kk
  rw [rv_stk0]
  exact va_runS (As := av.map (rv b base)) X.fix hM (va_cwS av.length X.hts (lw_S h1 h2 h3 h4) rfl rfl rfl hnm (roomL hR)) ⟨pct_blind, fun U hU hW => pct_in X P S _ U hU hW⟩ rfl (by simp) L.1 rfl (room8 hroom) hd hf
/-- a constructor -/
theorem gl_callI (hM : Ct y γ' L mc ms (.ref n :: av) μ K') (hd : decode γ.2.1 pc = .ok (.invokespecial index, 3)) (h1 : Cond.methodLink γ.1 index y ∈ lw_all) (h2 : Cond.instanceMethod y ∈ lw_all) (h4 : Cond.initialized y.cls ∈ lw_all) (h5 : Cond.code y γ'.2.1 γ'.2.2.1 none ∈ lw_all) (hre : γ'.2.2.2.1 = none) (hyi : y.name = "<init>") (hh : γ'.2.2.2.2.2 = []) (hnm : y.cls ≠ "java/lang/invoke/MethodHandle" ∧ y.cls ≠ "java/lang/invoke/VarHandle" ∧ (parseMethodDescriptor y.desc).map (fun d => d.parameters.length) = some av.length) (hst : sts = av.reverse ++ .ref n :: st) (hroom : Nat.ble (st.map fun v => v.category).sum 8 = true) (hR : L + 1 ≤ R.frames ∧ γ'.2.2.1 + 11019 + 64 * L ≤ R.locals) (hf : cells + mc ≤ R.cells ∧ slots + ms ≤ R.slots)
    (kk : ∀ v μ', K' v μ' → GL γ R K (cells + mc) (slots + ms) (pc + 3) lc (v.toList ++ st) μ') : GL γ R K cells slots pc lc sts μ := fun p l e s m args below meth c D b base H locs ls X P S L => by
  have hM := hM l D b base X.fl
  rw [show wsG y γ' = ws_ y γ'.2.1 γ'.2.2.1 γ'.2.2.2.1 from if_pos hh, hre] at hM
  subst hst
  refine glx (a := (Value.ref (ad b base n) :: av.map (rv b base)).toArray) X P S L ?_ kk
  rw [rv_stk]
  exact va_runI (As := av.map (rv b base)) (b := ad b base n) X.fix hM (cwI av.length X.hts (lw_meth h5) rfl rfl rfl (X.hts _ h4) (X.hts _ h1) (X.hts _ h2) hyi hnm (roomL hR)) ⟨pct_blind, fun U hU hW => pct_in X P S _ U hU hW⟩ rfl (by simp) L.1 rfl (room8 hroom) hd hf
/-- a call of an overriding or inherited method: x is named, y runs, the receiver's class is C -/
theorem gl_callU {x : MethodName} {C owner : String} (hM : Ct y γ' L mc ms (.ref n :: av) μ K') (hd : decode γ.2.1 pc = .ok (.invokevirtual index, 3)) (h1 : Cond.methodLink γ.1 index x ∈ lw_all) (h2 : Cond.sameMethod x.cls owner x.name x.desc ∈ lw_all) (h3 : Cond.instanceMethod ⟨owner, x.name, x.desc⟩ ∈ lw_all) {b0 : ByteArray} {m0 : Nat} {r0 : Option FieldType} (h0 : Cond.code ⟨owner, x.name, x.desc⟩ b0 m0 r0 ∈ lw_all) (h4 : Cond.selects C x y ∈ lw_all) (h5 : Cond.instanceMethod y ∈ lw_all) (h6 : Cond.initialized y.cls ∈ lw_all) (h7 : Cond.code y γ'.2.1 γ'.2.2.1 γ'.2.2.2.1 ∈ lw_all) (hh : γ'.2.2.2.2.2 = []) (hnm : owner ≠ "java/lang/invoke/MethodHandle" ∧ owner ≠ "java/lang/invoke/VarHandle" ∧ (parseMethodDescriptor x.desc).map (fun d => d.parameters.length) = some av.length) (hl : lk μ n = some (.inr (.inr (ci, fs)))) (hc : vwCl[ci]? = some (C, T, N)) (hst : sts = av.reverse ++ .ref n :: st) (hroom : Nat.ble (st.map fun v => v.category).sum 8 = true) (hR : L + 1 ≤ R.frames ∧ γ'.2.2.1 + 11019 + 64 * L ≤ R.locals) (hf : cells + mc ≤ R.cells ∧ slots + ms ≤ R.slots)
    (kk : ∀ v μ', K' v μ' → GL γ R K (cells + mc) (slots + ms) (pc + 3) lc (v.toList ++ st) μ') : GL γ R K cells slots pc lc sts μ := fun p l e s m args below meth c D b base H locs ls X P S L => by
  have hM := hM l D b base X.fl
  rw [show wsG y γ' = ws_ y γ'.2.1 γ'.2.2.1 γ'.2.2.2.1 from if_pos hh] at hM
  subst hst
  refine glx (a := (Value.ref (ad b base n) :: av.map (rv b base)).toArray) X P S L ?_ kk
  rw [rv_stk]
  have hin : ∀ w ∈ ([.methodLink γ.1 index x, .sameMethod x.cls owner x.name x.desc, .instanceMethod ⟨owner, x.name, x.desc⟩, .selects C x y, .instanceMethod y, .initialized y.cls] : List Cond), w ∈ lw_all := by
    intro w hw
    simp only [List.mem_cons, List.not_mem_nil, or_false] at hw
    rcases hw with e | e | e | e | e | e <;> rw [e] <;> assumption
  refine va_runU (As := av.map (rv b base)) (b := ad b base n) (C := C) X.fix hM (va_cwO (owner := owner) av.length X.hts (lw_app hin (lw_meth h7)) rfl rfl rfl h0 hnm (roomL hR)) ⟨pct_blind, ?_, fun U hU hW => pct_in X P S _ U hU hW⟩ rfl (by simp) L.1 rfl (room8 hroom) hd hf
  obtain ⟨r, hr, cell, g1, g2, g3, -⟩ := P.2.2.2 _ _ hl
  exact ⟨cell, g1, by rw [g3]; rfl, by rw [g2]; exact (X.K.1 ci _ hc).2.1⟩
/-- super.m(..) -/
theorem gl_callSU {C : String} (hM : Ct y γ' L mc ms (.ref n :: av) μ K') (hd : decode γ.2.1 pc = .ok (.invokespecial index, 3)) (h1 : Cond.methodLink γ.1 index y ∈ lw_all) (h2 : Cond.sameMethod y.cls y.cls y.name y.desc ∈ lw_all) (h3 : Cond.superclass γ.1 y.cls ∈ lw_all) (h5 : Cond.instanceMethod y ∈ lw_all) (h6 : Cond.initialized y.cls ∈ lw_all) (h7 : Cond.code y γ'.2.1 γ'.2.2.1 γ'.2.2.2.1 ∈ lw_all) (hh : γ'.2.2.2.2.2 = []) (hnm : y.name ≠ "<init>" ∧ (parseMethodDescriptor y.desc).map (fun d => d.parameters.length) = some av.length) (hl : lk μ n = some (.inr (.inr (ci, fs)))) (hc : vwCl[ci]? = some (C, T, N)) (hst : sts = av.reverse ++ .ref n :: st) (hroom : Nat.ble (st.map fun v => v.category).sum 8 = true) (hR : L + 1 ≤ R.frames ∧ γ'.2.2.1 + 11019 + 64 * L ≤ R.locals) (hf : cells + mc ≤ R.cells ∧ slots + ms ≤ R.slots)
    (kk : ∀ v μ', K' v μ' → GL γ R K (cells + mc) (slots + ms) (pc + 3) lc (v.toList ++ st) μ') : GL γ R K cells slots pc lc sts μ := fun p l e s m args below meth c D b base H locs ls X P S L => by
  have hM := hM l D b base X.fl
  rw [show wsG y γ' = ws_ y γ'.2.1 γ'.2.2.1 γ'.2.2.2.1 from if_pos hh] at hM
  subst hst
  refine glx (a := (Value.ref (ad b base n) :: av.map (rv b base)).toArray) X P S L ?_ kk
  rw [rv_stk]
  have hin : ∀ w ∈ ([.methodLink γ.1 index y, .sameMethod y.cls y.cls y.name y.desc, .superclass γ.1 y.cls, .instanceMethod y, .initialized y.cls] : List Cond), w ∈ lw_all := by
    intro w hw
    simp only [List.mem_cons, List.not_mem_nil, or_false] at hw
    rcases hw with e | e | e | e | e <;> rw [e] <;> assumption
  refine va_runSU (As := av.map (rv b base)) (b := ad b base n) (C := C) (X.K.1 ci _ hc).2 X.fix hM (va_cwSU av.length X.hts (lw_app hin (lw_meth h7)) rfl rfl rfl hnm (roomL hR)) ⟨pct_blind, ?_, fun U hU hW => pct_in X P S _ U hU hW⟩ rfl (by simp) L.1 rfl (room8 hroom) hd hf
  obtain ⟨r, hr, cell, g1, g2, g3, -⟩ := P.2.2.2 _ _ hl
  exact ⟨cell, g1, by rw [g3]; rfl, by rw [g2]; exact (X.K.1 ci _ hc).2.1⟩
/-- a private method of a nest mate -/
theorem gl_callVN {host : String} (hM : Ct y γ' L mc ms (.ref n :: av) μ K') (hd : decode γ.2.1 pc = .ok (.invokevirtual index, 3)) (h1 : Cond.methodLinkNest γ.1 index y host ∈ nwL) (h2 : Cond.instanceMethod y ∈ lw_all) (h3 : Cond.selects y.cls y y ∈ lw_all) (h4 : Cond.initialized y.cls ∈ lw_all) (h5 : Cond.code y γ'.2.1 γ'.2.2.1 γ'.2.2.2.1 ∈ lw_all) (hh : γ'.2.2.2.2.2 = []) (hnm : y.cls ≠ "java/lang/invoke/MethodHandle" ∧ y.cls ≠ "java/lang/invoke/VarHandle" ∧ (parseMethodDescriptor y.desc).map (fun d => d.parameters.length) = some av.length) (hl : lk μ n = some (.inr (.inr (ci, fs)))) (hc : vwCl[ci]? = some (y.cls, T, N)) (hst : sts = av.reverse ++ .ref n :: st) (hroom : Nat.ble (st.map fun v => v.category).sum 8 = true) (hR : L + 1 ≤ R.frames ∧ γ'.2.2.1 + 11019 + 64 * L ≤ R.locals) (hf : cells + mc ≤ R.cells ∧ slots + ms ≤ R.slots)
    (kk : ∀ v μ', K' v μ' → GL γ R K (cells + mc) (slots + ms) (pc + 3) lc (v.toList ++ st) μ') : GL γ R K cells slots pc lc sts μ := fun p l e s m args below meth c D b base H locs ls X P S L => by
  have hM := hM l D b base X.fl
  rw [show wsG y γ' = ws_ y γ'.2.1 γ'.2.2.1 γ'.2.2.2.1 from if_pos hh] at hM
  subst hst
  refine glx (a := (Value.ref (ad b base n) :: av.map (rv b base)).toArray) X P S L ?_ kk
  rw [rv_stk]
  refine va_runVN (As := av.map (rv b base)) (b := ad b base n) (C := y.cls) X.fix hM ⟨va_cnB av.length X.hts (lw_meth h5) rfl rfl rfl (X.nx.1 _ h1) (X.hts _ h4) hnm (roomL hR), X.hts _ h2, X.hts _ h3⟩ ⟨pct_blind, ?_, fun U hU hW => pct_in X P S _ U hU hW⟩ rfl (by simp) L.1 rfl (room8 hroom) hd hf
  obtain ⟨r, hr, cell, g1, g2, g3, -⟩ := P.2.2.2 _ _ hl
  exact ⟨cell, g1, by rw [g3]; rfl, by rw [g2]; exact (X.K.1 ci _ hc).2.1⟩
/-- a private constructor of a nest mate -/
theorem gl_callIN {host : String} (hM : Ct y γ' L mc ms (.ref n :: av) μ K') (hd : decode γ.2.1 pc = .ok (.invokespecial index, 3)) (h1 : Cond.methodLinkNest γ.1 index y host ∈ nwL) (h2 : Cond.instanceMethod y ∈ lw_all) (h4 : Cond.initialized y.cls ∈ lw_all) (h5 : Cond.code y γ'.2.1 γ'.2.2.1 none ∈ lw_all) (hre : γ'.2.2.2.1 = none) (hyi : y.name = "<init>") (hh : γ'.2.2.2.2.2 = []) (hnm : y.cls ≠ "java/lang/invoke/MethodHandle" ∧ y.cls ≠ "java/lang/invoke/VarHandle" ∧ (parseMethodDescriptor y.desc).map (fun d => d.parameters.length) = some av.length) (hst : sts = av.reverse ++ .ref n :: st) (hroom : Nat.ble (st.map fun v => v.category).sum 8 = true) (hR : L + 1 ≤ R.frames ∧ γ'.2.2.1 + 11019 + 64 * L ≤ R.locals) (hf : cells + mc ≤ R.cells ∧ slots + ms ≤ R.slots)
    (kk : ∀ v μ', K' v μ' → GL γ R K (cells + mc) (slots + ms) (pc + 3) lc (v.toList ++ st) μ') : GL γ R K cells slots pc lc sts μ := fun p l e s m args below meth c D b base H locs ls X P S L => by
  have hM := hM l D b base X.fl
  rw [show wsG y γ' = ws_ y γ'.2.1 γ'.2.2.1 γ'.2.2.2.1 from if_pos hh, hre] at hM
  subst hst
  refine glx (a := (Value.ref (ad b base n) :: av.map (rv b base)).toArray) X P S L ?_ kk
  rw [rv_stk]
  exact va_runIN (As := av.map (rv b base)) (b := ad b base n) X.fix hM ⟨va_cnB av.length X.hts (lw_meth h5) rfl rfl rfl (X.nx.1 _ h1) (X.hts _ h4) hnm (roomL hR), hyi, X.hts _ h2⟩ ⟨pct_blind, fun U hU hW => pct_in X P S _ U hU hW⟩ rfl (by simp) L.1 rfl (room8 hroom) hd hf
end GLd
