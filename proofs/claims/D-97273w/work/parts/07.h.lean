/-! THE LAYER GL, second part: arrays, fields, what is made, ends -/
set_option maxRecDepth 100000
section GLn
variable {p : Program} {l : Launch} {e : Env} {R : Room} {s : State} {m : MethodId} {args : Array Value} {below : List Frame} {meth : Method} {c : Code} {H : Heap} {locs : List Loc} {cells slots : Nat} {Q : State → Prop}
theorem gl_aastN1 {T : State} (X : Stand p l e R s m args below meth c T locs cells slots) (hexec : p.tables.exec = Jvm.exec) {a : Addr} {cell : Cell} {ty : FieldType} (hty : ty.isReference = true) {j : Int32} (hcell : T.heap[a]? = some cell) (harr : s.isArrayOf cell ty) (hknown : cell.vm ≠ .unknown)
    (hin : ¬ (j < 0 ∨ cell.slots.size ≤ j.toNatClampNeg))
    {g : JFrame} (hg : g.method = m) {rest : List Value} (hstack : g.stack = .null :: .int j :: .ref a :: rest) (hdg : decode c.code g.pc = .ok (.aastore, 1)) :
    Stand p l e R s m args below meth c (T.setCell a (cell.setSlot j.toNatClampNeg .null)) (locs ++ [⟨a, j.toNatClampNeg⟩]) cells slots ∧
      ∀ target, Steps p.tables e below ((T.setCell a (cell.setSlot j.toNatClampNeg .null)).setTop { g with pc := g.pc + 1, stack := rest }) target → Steps p.tables e below (T.setTop g) target := by
  have hT := State.isArrayOf_alike X.warmed.alike harr
  have hfit : T.fitsSlot cell.cls cell.vm j.toNatClampNeg .null = true := by
    obtain ⟨hobj, k, hk, comp, hkind⟩ := hT
    cases ty <;> first | (cases hvm : cell.vm <;> first | exact absurd hvm (hobj _) | (simp [State.fitsSlot, State.slotType?, hk, hkind, fits]; done)) | (exfalso; revert hty; simp [FieldType.isReference]; done)
  refine ⟨X.stored hcell _ _, fun target hrest => ?_⟩
  subst hg
  jvm_step X.here [hexec, hdg]
  refine aastore.wp_of_null (c := cell) (t := ty) X.here.top hstack hcell hT hin hknown (Nat.not_le.mp fun q => hin (Or.inr q)) hfit ?_
  intro acts
  rw [afterInstr_ok]
  exact hrest
theorem gl_aastN0 {t : Nat} {cc : ByteArray} (hexec : p.tables.exec = Jvm.exec) (hb : c.code = cc) {a : Addr} {cell : Cell} {j : Int32} (hcell : H[a]? = some cell) (harr : s.isArrayOf cell (rty t)) (hknown : cell.vm ≠ .unknown) (hin : ¬ (j < 0 ∨ cell.slots.size ≤ j.toNatClampNeg))
    {g : JFrame} (hg : g.method = m) {rest : List Value} (hstack : g.stack = .null :: .int j :: .ref a :: rest) (hdg : decode cc g.pc = .ok (.aastore, 1))
    (kk : ∀ H' : Heap, H'[a]? = some (cell.setSlot j.toNatClampNeg .null) → H'.size = H.size → (∀ q, q ≠ a → H'[q]? = H[q]?) → W p l e R s m args below meth c H' (locs ++ [⟨a, j.toNatClampNeg⟩]) cells slots Q { g with pc := g.pc + 1, stack := rest }) :
    W p l e R s m args below meth c H locs cells slots Q g := by
  intro T hT X
  have hT' : T.heap[a]? = some cell := by rw [hT]; exact hcell
  obtain ⟨X', st⟩ := gl_aastN1 X hexec (by match t with | 0 => rfl | 1 => rfl | 2 => rfl | _ + 3 => rfl) hT' harr hknown hin hg hstack (by rw [hb]; exact hdg)
  have hlt : a < T.heap.size := (Array.getElem?_eq_some_iff.mp hT').1
  obtain ⟨t', a1, b1⟩ := kk _ (heapAt_setCell_self _ hlt) (by rw [size_setCell, hT]) (fun q hq => by rw [heapAt_setCell_ne _ (Ne.symm hq), hT]) (T.setCell a (cell.setSlot j.toNatClampNeg .null)) rfl X'
  exact ⟨t', st t' a1, b1⟩
end GLn
section GLh
variable {γ : GG} {R : Room} {K : Option Value → Mem → Prop} {cells slots pc : Nat} {lc : List (Option Value)} {st : List Value} {μ : Mem}
theorem gl_alen {n t k : Nat} {f : Nat → Int32} (hd : decode γ.2.1 pc = .ok (.arraylength, 1)) (hl : lk μ n = some (.inl (t, k, f))) (kk : GL γ R K cells slots (pc + 1) lc (.int (nI k) :: st) μ) : GL γ R K cells slots pc lc (.ref n :: st) μ := fun p l e s m args below meth c D b base H locs ls X P S L => by
  obtain ⟨cA, h1, h2, h3⟩ := P.2.2.2 _ _ hl
  exact W.alen (n := nI k) X.hx X.hb h1 (h2 k _) (by rw [arrV_size] <;> rfl) rfl rfl hd (kk p l e s m args below meth c D b base H locs ls X P S L)
theorem gl_alenq {n t k : Nat} {r : Nat → Option Nat} (hd : decode γ.2.1 pc = .ok (.arraylength, 1)) (hl : lk μ n = some (.inr (.inl (t, k, r)))) (kk : GL γ R K cells slots (pc + 1) lc (.int (nI k) :: st) μ) : GL γ R K cells slots pc lc (.ref n :: st) μ := fun p l e s m args below meth c D b base H locs ls X P S L => by
  obtain ⟨cA, h1, h2, h3⟩ := P.2.2.2 _ _ hl
  exact W.alen (n := nI k) X.hx X.hb h1 (h2 k _) (by rw [arrV_size] <;> rfl) rfl rfl hd (kk p l e s m args below meth c D b base H locs ls X P S L)
theorem gl_slen (hd : decode γ.2.1 pc = .ok (.arraylength, 1)) (kk : GL γ R K cells slots (pc + 1) lc (.int (nI μ.2.1.1) :: st) μ) : GL γ R K cells slots pc lc (.ref 0 :: st) μ := fun p l e s m args below meth c D b base H locs ls X P S L => by
  obtain ⟨scr, h1, h2, h3, h4, h5⟩ := P.2.2.1
  exact W.alen (n := nI μ.2.1.1) X.hx X.hb h1 h2 (by rw [h4] <;> rfl) rfl rfl hd (kk p l e s m args below meth c D b base H locs ls X P S L)
theorem gl_sld {i : Int32} {j : Nat} (hd : decode γ.2.1 pc = .ok (.iaload, 1)) (hi : i = nI j) (hj : j < μ.2.1.1) (hk : μ.2.1.1 < 2147483648) (kk : GL γ R K cells slots (pc + 1) lc (.int (μ.2.1.2 j) :: st) μ) : GL γ R K cells slots pc lc (.int i :: .ref 0 :: st) μ := fun p l e s m args below meth c D b base H locs ls X P S L => by
  obtain ⟨scr, h1, h2, h3, h4, h5⟩ := P.2.2.1
  subst hi
  exact W.iald (v := .int (μ.2.1.2 j)) X.hx X.hb h1 h2 h3 (by rw [h4]; exact vp_in_nI hj hk) (by rw [nI_clamp (show j < 2 ^ 31 by omega)]; exact h5 j hj) rfl rfl hd (kk p l e s m args below meth c D b base H locs ls X P S L)
theorem gl_iald {n k j : Nat} {f : Nat → Int32} {i : Int32} (hd : decode γ.2.1 pc = .ok (.iaload, 1)) (hl : lk μ n = some (.inl (0, k, f))) (hi : i = nI j) (hj : j < k) (kk : GL γ R K cells slots (pc + 1) lc (.int (f j) :: st) μ) (hk : k < 2147483648 := by omega) : GL γ R K cells slots pc lc (.int i :: .ref n :: st) μ := fun p l e s m args below meth c D b base H locs ls X P S L => by
  obtain ⟨cA, h1, h2, h3⟩ := P.2.2.2 _ _ hl
  subst hi
  exact W.iald (v := .int (f j)) X.hx X.hb h1 (h2 k _) (fun q => by cases q) (by rw [arrV_size]; exact vp_in_nI hj hk) (by rw [nI_clamp (show j < 2 ^ 31 by omega), arrV_read _ _ hj]) rfl rfl hd (kk p l e s m args below meth c D b base H locs ls X P S L)
theorem gl_bald {n k j : Nat} {f : Nat → Int32} {i : Int32} (hd : decode γ.2.1 pc = .ok (.baload, 1)) (hl : lk μ n = some (.inl (1, k, f))) (hi : i = nI j) (hj : j < k) (kk : GL γ R K cells slots (pc + 1) lc (.int (f j) :: st) μ) (hk : k < 2147483648 := by omega) : GL γ R K cells slots pc lc (.int i :: .ref n :: st) μ := fun p l e s m args below meth c D b base H locs ls X P S L => by
  obtain ⟨cA, h1, h2, h3⟩ := P.2.2.2 _ _ hl
  subst hi
  exact W.bald (v := .int (f j)) X.hx X.hb h1 (h2 k _) (fun q => by cases q) (by rw [arrV_size]; exact vp_in_nI hj hk) (by rw [nI_clamp (show j < 2 ^ 31 by omega), arrV_read _ _ hj]) rfl rfl hd (kk p l e s m args below meth c D b base H locs ls X P S L)
theorem gl_zald {n k j : Nat} {f : Nat → Int32} {i : Int32} (hd : decode γ.2.1 pc = .ok (.baload, 1)) (hl : lk μ n = some (.inl (2, k, f))) (hi : i = nI j) (hj : j < k) (kk : GL γ R K cells slots (pc + 1) lc (.int (f j) :: st) μ) (hk : k < 2147483648 := by omega) : GL γ R K cells slots pc lc (.int i :: .ref n :: st) μ := fun p l e s m args below meth c D b base H locs ls X P S L => by
  obtain ⟨cA, h1, h2, h3⟩ := P.2.2.2 _ _ hl
  subst hi
  exact W.zald (v := .int (f j)) X.hx X.hb h1 (h2 k _) (fun q => by cases q) (by rw [arrV_size]; exact vp_in_nI hj hk) (by rw [nI_clamp (show j < 2 ^ 31 by omega), arrV_read _ _ hj]) rfl rfl hd (kk p l e s m args below meth c D b base H locs ls X P S L)
theorem rty_ref (t : Nat) : (rty t).isReference = true := by
  match t with
  | 0 => rfl
  | 1 => rfl
  | 2 => rfl
  | _ + 3 => rfl
theorem gl_aald {n t k j : Nat} {r : Nat → Option Nat} {i : Int32} {o : Option Nat} (hd : decode γ.2.1 pc = .ok (.aaload, 1)) (hl : lk μ n = some (.inr (.inl (t, k, r)))) (hi : i = nI j) (hj : j < k) (ho : r j = o) (kk : GL γ R K cells slots (pc + 1) lc (va_rf o :: st) μ) (hk : k < 2147483648 := by omega) : GL γ R K cells slots pc lc (.int i :: .ref n :: st) μ := fun p l e s m args below meth c D b base H locs ls X P S L => by
  obtain ⟨cA, h1, h2, h3⟩ := P.2.2.2 _ _ hl
  subst hi
  subst ho
  exact W.aald (v := rv b base (va_rf (r j))) (ty := rty t) X.hx X.hb h1 (h2 k _) (rty_ref t) (fun q => by cases q) (by rw [arrV_size]; exact vp_in_nI hj hk) (by rw [nI_clamp (show j < 2 ^ 31 by omega), arrV_read _ _ hj, rv_rf]) rfl rfl hd (kk p l e s m args below meth c D b base H locs ls X P S L)
theorem gl_iast {n k j : Nat} {f : Nat → Int32} {i x : Int32} (hd : decode γ.2.1 pc = .ok (.iastore, 1)) (hl : lk μ n = some (.inl (0, k, f))) (hi : i = nI j) (hj : j < k) (kk : GL γ R K cells slots (pc + 1) lc st (up μ n (.inl (0, k, upd f j x)))) (hk : k < 2147483648 := by omega) : GL γ R K cells slots pc lc (.int x :: .int i :: .ref n :: st) μ := fun p l e s m args below meth c D b base H locs ls X P S L => by
  obtain ⟨cA, h1, h2, h3⟩ := P.2.2.2 _ _ hl
  obtain ⟨n', hn'⟩ := lk_pos hl
  subst hi
  refine W.iast X.hx X.hb h1 (h2 k _) (fun q => by cases q) (by rw [arrV_size]; exact vp_in_nI hj hk) rfl rfl hd fun H1 e1 z oq => ?_
  refine kk p l e s m args below meth c D b base H1 _ ls X (P.up hl ⟨cA, ?_, h2, h3⟩ z oq) (S.put z oq (by rw [hn']; simp only [ad]; omega)) L
  rw [e1, arrV_store, nI_clamp (show j < 2 ^ 31 by omega)]
  congr 2
  funext q
  by_cases hq : q = j <;> simp [updV, upd, hq]
theorem gl_bast {n k j : Nat} {f : Nat → Int32} {i x : Int32} (hd : decode γ.2.1 pc = .ok (.bastore, 1)) (hl : lk μ n = some (.inl (1, k, f))) (hi : i = nI j) (hj : j < k) (kk : GL γ R K cells slots (pc + 1) lc st (up μ n (.inl (1, k, upd f j x.toInt8.toInt32)))) (hk : k < 2147483648 := by omega) : GL γ R K cells slots pc lc (.int x :: .int i :: .ref n :: st) μ := fun p l e s m args below meth c D b base H locs ls X P S L => by
  obtain ⟨cA, h1, h2, h3⟩ := P.2.2.2 _ _ hl
  obtain ⟨n', hn'⟩ := lk_pos hl
  subst hi
  refine W.bast X.hx X.hb h1 (h2 k _) (fun q => by cases q) (by rw [arrV_size]; exact vp_in_nI hj hk) rfl rfl hd fun H1 e1 z oq => ?_
  refine kk p l e s m args below meth c D b base H1 _ ls X (P.up hl ⟨cA, ?_, h2, h3⟩ z oq) (S.put z oq (by rw [hn']; simp only [ad]; omega)) L
  rw [e1, arrV_store, nI_clamp (show j < 2 ^ 31 by omega)]
  congr 2
  funext q
  by_cases hq : q = j <;> simp [updV, upd, hq, narrow]
theorem gl_zast {n k j : Nat} {f : Nat → Int32} {i x : Int32} (hd : decode γ.2.1 pc = .ok (.bastore, 1)) (hl : lk μ n = some (.inl (2, k, f))) (hi : i = nI j) (hj : j < k) (kk : GL γ R K cells slots (pc + 1) lc st (up μ n (.inl (2, k, upd f j (x &&& 1))))) (hk : k < 2147483648 := by omega) : GL γ R K cells slots pc lc (.int x :: .int i :: .ref n :: st) μ := fun p l e s m args below meth c D b base H locs ls X P S L => by
  obtain ⟨cA, h1, h2, h3⟩ := P.2.2.2 _ _ hl
  obtain ⟨n', hn'⟩ := lk_pos hl
  subst hi
  refine W.zast X.hx X.hb h1 (h2 k _) (fun q => by cases q) (by rw [arrV_size]; exact vp_in_nI hj hk) rfl rfl hd fun H1 e1 z oq => ?_
  refine kk p l e s m args below meth c D b base H1 _ ls X (P.up hl ⟨cA, ?_, h2, h3⟩ z oq) (S.put z oq (by rw [hn']; simp only [ad]; omega)) L
  rw [e1, arrV_store, nI_clamp (show j < 2 ^ 31 by omega)]
  congr 2
  funext q
  by_cases hq : q = j <;> simp [updV, upd, hq, narrow]
/-- a cell that an array of references of the kind t takes -/
def takes (s : State) (t : Nat) (c : MC) : Prop := match c with
  | .inl a => a.1 = t ∧ t ≤ 1
  | .inr (.inl _) => False
  | .inr (.inr o) => 2 ≤ t ∧ ∃ r : vw_C, vwCl[o.1]? = some r ∧ (r.1 = rnm t ∨ va_Nw (.castable r.1 (rnm t)) s)
theorem vm_self (vm : Vm) (a : ClassId) : vm.assignable a a = true := by
  show Vm.assignableAux vm (255 + 1) a a = true
  unfold Vm.assignableAux
  simp
theorem pty_ra {U : State} {cA : ClassId} {t : Nat} (ht : t ≤ 1) (h : va_RA U cA (pty t)) : U.vm.findClass (rnm t) = some cA := by
  match t, ht with
  | 0, _ => exact h
  | 1, _ => exact h
theorem gl_aast {n t k j v : Nat} {r : Nat → Option Nat} {i : Int32} {cv : MC} (hd : decode γ.2.1 pc = .ok (.aastore, 1)) (hl : lk μ n = some (.inr (.inl (t, k, r)))) (hi : i = nI j) (hj : j < k) (hv : lk μ v = some cv) (ht : ∀ (base : Nat) (s : State), NX base s → takes s t cv) (kk : GL γ R K cells slots (pc + 1) lc st (up μ n (.inr (.inl (t, k, va_up r j (some v)))))) (hk : k < 2147483648 := by omega) : GL γ R K cells slots pc lc (.ref v :: .int i :: .ref n :: st) μ := fun p l e s m args below meth c D b base H locs ls X P S L => by
  obtain ⟨cA, h1, h2, kA, comp, k1, k2, k3⟩ := P.2.2.2 _ _ hl
  obtain ⟨n', hn'⟩ := lk_pos hl
  have hcv := P.2.2.2 _ _ hv
  have hT := ht base s X.nx
  obtain ⟨kE, hkE, -⟩ := Vm.findClass_spec k3
  subst hi
  have key : ∃ (cellV : Cell) (kv : Class), H[ad b base v]? = some cellV ∧ (∀ q, cellV.vm ≠ .statics q) ∧ s.vm.classes[cellV.cls]? = some kv ∧ s.vm.assignable cellV.cls comp = true := by
    rcases cv with a | a | o
    · obtain ⟨cB, g1, g2, g3⟩ := hcv
      obtain ⟨e1, e2⟩ := hT
      obtain ⟨-, kB, hkB, -⟩ := g2 0 (fun _ => .null)
      rw [e1] at g3
      have e3 : cB = comp := Option.some.inj ((pty_ra e2 g3).symm.trans k3)
      exact ⟨_, kB, g1, (fun q h => by cases h), hkB, by show s.vm.assignable cB comp = true; rw [e3]; exact vm_self _ _⟩
    · exact hT.elim
    · obtain ⟨r0, hr0, cellV, g1, g2, g3, -⟩ := hcv
      obtain ⟨-, r', hr', hor⟩ := hT
      cases hr0.symm.trans hr'
      have hcls := (X.K.1 _ _ hr0).2
      obtain ⟨hfc, kC, hkC, -⟩ := hcls
      refine ⟨cellV, kC, g1, (fun q h => by rw [g3] at h; cases h), by rw [g2]; exact hkC, ?_⟩
      rw [g2]
      rcases hor with hor | hor
      · rw [hor] at hfc
        cases hfc.symm.trans k3
        exact vm_self _ _
      · obtain ⟨c0, t1, f1, f2, f3⟩ := Cond.castable_spec (va_Nw.use (A := args) rfl hor)
        cases hfc.symm.trans f1
        cases k3.symm.trans f2
        exact f3
  obtain ⟨cellV, kv, g1, g2, g3, g4⟩ := key
  refine W.aast X.hx X.hb h1 (fun q h => by cases h) (fun h => by cases h) k1 k2 (rty_ref t) hkE ⟨nI_pos (show j < 2 ^ 31 by omega), by rw [arrV_size, nI_clamp (show j < 2 ^ 31 by omega)]; exact hj⟩ g1 g2 g3 g4 rfl rfl hd fun H1 e1 z oq => ?_
  refine kk p l e s m args below meth c D b base H1 _ ls X (P.up hl ⟨cA, ?_, h2, kA, comp, k1, k2, k3⟩ z oq) (S.put z oq (by rw [hn']; simp only [ad]; omega)) L
  rw [e1, arrV_store, nI_clamp (show j < 2 ^ 31 by omega)]
  congr 2
  funext q
  by_cases hq : q = j <;> simp [updV, va_up, hq, va_rf]
theorem gl_aastN {n t k j : Nat} {r : Nat → Option Nat} {i : Int32} (hd : decode γ.2.1 pc = .ok (.aastore, 1)) (hl : lk μ n = some (.inr (.inl (t, k, r)))) (hi : i = nI j) (hj : j < k) (kk : GL γ R K cells slots (pc + 1) lc st (up μ n (.inr (.inl (t, k, va_up r j none))))) (hk : k < 2147483648 := by omega) : GL γ R K cells slots pc lc (.null :: .int i :: .ref n :: st) μ := fun p l e s m args below meth c D b base H locs ls X P S L => by
  obtain ⟨cA, h1, h2, h3⟩ := P.2.2.2 _ _ hl
  obtain ⟨n', hn'⟩ := lk_pos hl
  subst hi
  have fin : ∀ H1 : Heap, H1[ad b base n]? = some ((arrV cA k (fun j => va_rf ((r j).map (ad b base)))).setSlot (nI j).toNatClampNeg .null) → H1.size = H.size → (∀ q, q ≠ ad b base n → H1[q]? = H[q]?) → W p l e R s m args below meth c H1 (locs ++ [⟨ad b base n, (nI j).toNatClampNeg⟩]) cells slots (MQ below (KQ D b base K) args s R.cells R.slots (fun q => base ≤ q)) (F0 m (pc + 1) ls (st.map (rv b base))) := fun H1 e1 z oq => by
    refine kk p l e s m args below meth c D b base H1 _ ls X (P.up hl ⟨cA, ?_, h2, h3⟩ z oq) (S.put z oq (by rw [hn']; simp only [ad]; omega)) L
    rw [e1, arrV_store, nI_clamp (show j < 2 ^ 31 by omega)]
    congr 2
    funext q
    by_cases hq : q = j <;> simp [updV, va_up, hq, va_rf]
  exact gl_aastN0 (t := t) X.hx X.hb h1 (h2 k _) (fun q => by cases q) (by rw [arrV_size]; exact vp_in_nI hj hk) rfl rfl hd fin
end GLh
