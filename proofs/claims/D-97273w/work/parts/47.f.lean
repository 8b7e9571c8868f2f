/-! the layer's rule for it -/
set_option maxRecDepth 100000
section GLf2
variable {γ γ' : GG} {R : Room} {K K' : Option Value → Mem → Prop} {cells slots pc L mc ms n ci N index : Nat} {lc : List (Option Value)} {st sts av : List Value} {μ : Mem} {y : MethodName} {T : u_T} {fs : List Value}
theorem gl_callSU2 {C sup : String} (hM : Ct y γ' L mc ms (.ref n :: av) μ K') (hd : decode γ.2.1 pc = .ok (.invokespecial index, 3)) (h1 : Cond.methodLink γ.1 index ⟨sup, y.name, y.desc⟩ ∈ lw_all) (h2 : Cond.sameMethod sup y.cls y.name y.desc ∈ lw_all) (h3 : Cond.superclass γ.1 sup ∈ lw_all) (h3' : Cond.superclass sup y.cls ∈ lw_all) (h5 : Cond.instanceMethod y ∈ lw_all) (h6 : Cond.initialized y.cls ∈ lw_all) (h7 : Cond.code y γ'.2.1 γ'.2.2.1 γ'.2.2.2.1 ∈ lw_all) (hh : γ'.2.2.2.2.2 = []) (hnm : y.name ≠ "<init>" ∧ (parseMethodDescriptor y.desc).map (fun d => d.parameters.length) = some av.length) (hl : lk μ n = some (.inr (.inr (ci, fs)))) (hc : vwCl[ci]? = some (C, T, N)) (hst : sts = av.reverse ++ .ref n :: st) (hroom : Nat.ble (st.map fun v => v.category).sum 8 = true) (hR : L + 1 ≤ R.frames ∧ γ'.2.2.1 + 11019 + 64 * L ≤ R.locals) (hf : cells + mc ≤ R.cells ∧ slots + ms ≤ R.slots)
    (kk : ∀ v μ', K' v μ' → GL γ R K (cells + mc) (slots + ms) (pc + 3) lc (v.toList ++ st) μ') : GL γ R K cells slots pc lc sts μ := fun p l e s m args below meth c D b base H locs ls X P S L => by
  have hM := hM l D b base X.fl
  rw [show wsG y γ' = ws_ y γ'.2.1 γ'.2.2.1 γ'.2.2.2.1 from if_pos hh] at hM
  subst hst
  refine glx (a := (Value.ref (ad b base n) :: av.map (rv b base)).toArray) X P S L ?_ kk
  rw [rv_stk]
  have hG := lw_meth h7
  refine runSU2 (As := av.map (rv b base)) (b := ad b base n) (C := C) (n := av.length) (X.K.1 ci _ hc).2 X.fix hM (X.hts _ h1) (X.hts _ h2) (X.hts _ h3) (X.hts _ h3') (X.hts _ h5) (X.hts _ h6) (X.hts _ h7) hnm.1 (fun sig h => ?_) ⟨rfl, rfl, (roomL hR).1, (roomL hR).2, pay_in X.hts hG, List.mem_cons_self⟩ ⟨pct_blind, ?_, fun U hU hW => pct_in X P S _ U hU hW⟩ rfl (by simp) L.1 rfl (room8 hroom) hd hf
  · have h2 := hnm.2
    rw [h] at h2
    exact (Option.some.inj h2).symm
  · obtain ⟨r, hr, cell, g1, g2, g3, -⟩ := P.2.2.2 _ _ hl
    exact ⟨cell, g1, by rw [g3]; rfl, by rw [g2]; exact (X.K.1 ci _ hc).2.1⟩
end GLf2

