/-! THE LAYER GL, third part: fields, what is made, ends, contracts, calls -/
set_option maxRecDepth 100000
theorem mapAt {f : Value → Value} {fs : List Value} {k : Nat} {v : Value} (h : fs[k]? = some v) : vp_V (fs.map f) k = f v := by
  simp [vp_V, h]
theorem mapLt {f : Value → Value} {fs : List Value} {k : Nat} {v : Value} (h : fs[k]? = some v) : k < (fs.map f).length := by
  have := (List.getElem?_eq_some_iff.mp h).1
  simpa using this
section GLf
variable {γ : GG} {R : Room} {K : Option Value → Mem → Prop} {cells slots pc : Nat} {lc : List (Option Value)} {st : List Value} {μ : Mem}
theorem gl_get {n ci N index k : Nat} {C : String} {T : u_T} {fs : List Value} {v : Value} (hd : decode γ.2.1 pc = .ok (.getfield index, 3)) (hl : lk μ n = some (.inr (.inr (ci, fs)))) (hc : vwCl[ci]? = some (C, T, N)) (hin : ∀ w ∈ u_ws C T N, w ∈ lw_all) (hk : k < N) (hlink : Cond.fieldLink γ.1 index (T k).1 (T k).2.1 (T k).2.2.1 ∈ lw_all) (hv : fs[k]? = some v) (kk : GL γ R K cells slots (pc + 3) lc (v :: st) μ) : GL γ R K cells slots pc lc (.ref n :: st) μ := fun p l e s m args below meth c D b base H locs ls X P S L => by
  obtain ⟨r, hr, cell, q1, q2, q3, q4⟩ := P.2.2.2 _ _ hl
  cases hr.symm.trans hc
  obtain ⟨hS, hfc, kC, hkC, hkind⟩ := X.K.1 ci _ hc
  obtain ⟨cf, kf, fi, f, hi, hsl⟩ := hS k hk
  refine W.getf X.hx X.hb X.own (X.hts _ hlink) hi (u_facts hfc hkC (u_lays X.hts hin hk) hi).1 q1 (by rw [q3]; exact fun h => by cases h) (v := rv b base v) ?_ rfl rfl hd (kk p l e s m args below meth c D b base H locs ls X P S L)
  rw [hsl, q4 k hk, mapAt hv]
theorem gl_getN {n ci N index k : Nat} {C host : String} {T : u_T} {fs : List Value} {v : Value} (hd : decode γ.2.1 pc = .ok (.getfield index, 3)) (hl : lk μ n = some (.inr (.inr (ci, fs)))) (hc : vwCl[ci]? = some (C, T, N)) (hin : ∀ w ∈ u_ws C T N, w ∈ lw_all) (hk : k < N) (hlink : Cond.fieldLinkNest γ.1 index (T k).1 (T k).2.1 (T k).2.2.1 host ∈ nwL) (hv : fs[k]? = some v) (kk : GL γ R K cells slots (pc + 3) lc (v :: st) μ) : GL γ R K cells slots pc lc (.ref n :: st) μ := fun p l e s m args below meth c D b base H locs ls X P S L => by
  obtain ⟨r, hr, cell, q1, q2, q3, q4⟩ := P.2.2.2 _ _ hl
  cases hr.symm.trans hc
  obtain ⟨hS, hfc, kC, hkC, hkind⟩ := X.K.1 ci _ hc
  obtain ⟨cf, kf, fi, f, hi, hsl⟩ := hS k hk
  refine va_Wgetf X.hx X.hb X.own (va_Nw.use rfl (X.nx.1 _ hlink)) hi (u_facts hfc hkC (u_lays X.hts hin hk) hi).1 q1 (by rw [q3]; exact fun h => by cases h) (v := rv b base v) ?_ rfl rfl hd (kk p l e s m args below meth c D b base H locs ls X P S L)
  rw [hsl, q4 k hk, mapAt hv]
theorem fsSet {D : va_G} {b base q ci N : Nat} {fs : List Value} {H1 : Heap} {cell : Cell} {k : Nat} {v v0 : Value} (hv0 : fs[k]? = some v0) (hk : k < N) (hap : ∀ x y, x < N → y < N → x ≠ y → (D.2 ci) x ≠ (D.2 ci) y) (e1 : H1[q]? = some (cell.setSlot (D.2 ci k) (rv b base v))) (q2 : cell.cls = D.1 ci) (q3 : cell.vm = .none) (q4 : ∀ j, j < N → cell.slots[D.2 ci j]? = some (vp_V (fs.map (rv b base)) j)) : t_OB q (D.1 ci) N (D.2 ci) H1 (vp_V ((fs.set k v).map (rv b base))) := by
  rw [List.map_set]
  exact t_OB.to (V := updV (vp_V (fs.map (rv b base))) k (rv b base v)) ⟨_, e1, q2, q3, t_set q4 hap hk _⟩ (fun j _ => vp_updV_set (mapLt hv0) _ j)
theorem gl_put {n ci N index k : Nat} {C : String} {T : u_T} {fs : List Value} {v v0 : Value} (hd : decode γ.2.1 pc = .ok (.putfield index, 3)) (hl : lk μ n = some (.inr (.inr (ci, fs)))) (hc : vwCl[ci]? = some (C, T, N)) (hin : ∀ w ∈ u_ws C T N, w ∈ lw_all) (ty : Nat → FieldType) (hty : ∀ k, k < N → parseFieldDescriptor (T k).2.2.1 = some (ty k)) (hnm : ∀ a, a < N → ∀ b, b < N → a ≠ b → (T a).2.1 ≠ (T b).2.1) (hk : k < N) (hfin : (T k).2.2.2 = false) (hlink : Cond.fieldLink γ.1 index (T k).1 (T k).2.1 (T k).2.2.1 ∈ lw_all) (hv : ∀ b base : Nat, narrow (ty k) (rv b base v) = rv b base v ∧ fits (ty k) (rv b base v) = true) (hv0 : fs[k]? = some v0) (kk : GL γ R K cells slots (pc + 3) lc st (up μ n (.inr (.inr (ci, fs.set k v))))) : GL γ R K cells slots pc lc (v :: .ref n :: st) μ := fun p l e s m args below meth c D b base H locs ls X P S L => by
  have hap := va_apart (own := γ.1) X.hts hin ty hty hnm X.K hc
  obtain ⟨n', hn'⟩ := lk_pos hl
  obtain ⟨r, hr, cell, q1, q2, q3, q4⟩ := P.2.2.2 _ _ hl
  cases hr.symm.trans hc
  obtain ⟨hS, hfc, kC, hkC, hkind⟩ := X.K.1 ci _ hc
  obtain ⟨cf, kf, fi, f, hi, hsl⟩ := hS k hk
  have hlay := X.hts _ (hin _ (u_in_lay hk))
  unfold u_lay at hlay
  rw [if_neg (by rw [hfin]; decide)] at hlay
  have hst := (u_facts hfc hkC (u_lays X.hts hin hk) hi).1
  have h6 := u_store hfc hkC hkind hlay hi (hty k hk) (hv b base).1 (hv b base).2
  refine W.putK X.hx X.hb (f := f) ⟨X.own, X.hts _ hlink, ⟨_, _, _, hi⟩, hst⟩ (by rw [q2]; exact h6) q1 q3 (by rw [hsl]; exact k2_hasslot (q4 k hk)) rfl rfl hd fun H' e1 e2 e3 => ?_
  rw [hsl] at e1 ⊢
  exact kk p l e s m args below meth c D b base H' _ ls X (P.up hl ⟨_, hc, fsSet hv0 hk hap e1 q2 q3 q4⟩ e2 e3) (S.put e2 e3 (by rw [hn']; simp only [ad]; omega)) L
theorem gl_putN {n ci N index k : Nat} {C host : String} {T : u_T} {fs : List Value} {v v0 : Value} (hd : decode γ.2.1 pc = .ok (.putfield index, 3)) (hl : lk μ n = some (.inr (.inr (ci, fs)))) (hc : vwCl[ci]? = some (C, T, N)) (hin : ∀ w ∈ u_ws C T N, w ∈ lw_all) (ty : Nat → FieldType) (hty : ∀ k, k < N → parseFieldDescriptor (T k).2.2.1 = some (ty k)) (hnm : ∀ a, a < N → ∀ b, b < N → a ≠ b → (T a).2.1 ≠ (T b).2.1) (hk : k < N) (hfin : (T k).2.2.2 = false) (hlink : Cond.fieldLinkNest γ.1 index (T k).1 (T k).2.1 (T k).2.2.1 host ∈ nwL) (hv : ∀ b base : Nat, narrow (ty k) (rv b base v) = rv b base v ∧ fits (ty k) (rv b base v) = true) (hv0 : fs[k]? = some v0) (kk : GL γ R K cells slots (pc + 3) lc st (up μ n (.inr (.inr (ci, fs.set k v))))) : GL γ R K cells slots pc lc (v :: .ref n :: st) μ := fun p l e s m args below meth c D b base H locs ls X P S L => by
  have hap := va_apart (own := γ.1) X.hts hin ty hty hnm X.K hc
  obtain ⟨n', hn'⟩ := lk_pos hl
  obtain ⟨r, hr, cell, q1, q2, q3, q4⟩ := P.2.2.2 _ _ hl
  cases hr.symm.trans hc
  obtain ⟨hS, hfc, kC, hkC, hkind⟩ := X.K.1 ci _ hc
  obtain ⟨cf, kf, fi, f, hi, hsl⟩ := hS k hk
  have hlay := X.hts _ (hin _ (u_in_lay hk))
  unfold u_lay at hlay
  rw [if_neg (by rw [hfin]; decide)] at hlay
  have hst := (u_facts hfc hkC (u_lays X.hts hin hk) hi).1
  have h6 := u_store hfc hkC hkind hlay hi (hty k hk) (hv b base).1 (hv b base).2
  refine va_WputK X.hx X.hb (f := f) X.own (va_Nw.use rfl (X.nx.1 _ hlink)) hi hst (by rw [q2]; exact h6) q1 q3 (by rw [hsl]; exact k2_hasslot (q4 k hk)) rfl rfl hd fun H' e1 e2 e3 => ?_
  rw [hsl] at e1 ⊢
  exact kk p l e s m args below meth c D b base H' _ ls X (P.up hl ⟨_, hc, fsSet hv0 hk hap e1 q2 q3 q4⟩ e2 e3) (S.put e2 e3 (by rw [hn']; simp only [ad]; omega)) L
theorem gl_putF {n ci N index k : Nat} {C : String} {T : u_T} {fs : List Value} {v v0 : Value} (hd : decode γ.2.1 pc = .ok (.putfield index, 3)) (hl : lk μ n = some (.inr (.inr (ci, fs)))) (hc : vwCl[ci]? = some (C, T, N)) (hin : ∀ w ∈ u_ws C T N, w ∈ lw_all) (ty : Nat → FieldType) (hty : ∀ k, k < N → parseFieldDescriptor (T k).2.2.1 = some (ty k)) (hnm : ∀ a, a < N → ∀ b, b < N → a ≠ b → (T a).2.1 ≠ (T b).2.1) (hk : k < N) (hfin : (T k).2.2.2 = true) (hini : γ.2.2.2.2.1 = "<init>") (hdecl : (T k).1 = γ.1) (hlink : Cond.fieldLink γ.1 index (T k).1 (T k).2.1 (T k).2.2.1 ∈ lw_all) (hv : ∀ b base : Nat, narrow (ty k) (rv b base v) = rv b base v ∧ fits (ty k) (rv b base v) = true) (hv0 : fs[k]? = some v0) (kk : GL γ R K cells slots (pc + 3) lc st (up μ n (.inr (.inr (ci, fs.set k v))))) : GL γ R K cells slots pc lc (v :: .ref n :: st) μ := fun p l e s m args below meth c D b base H locs ls X P S L => by
  have hap := va_apart (own := γ.1) X.hts hin ty hty hnm X.K hc
  obtain ⟨n', hn'⟩ := lk_pos hl
  obtain ⟨r, hr, cell, q1, q2, q3, q4⟩ := P.2.2.2 _ _ hl
  cases hr.symm.trans hc
  obtain ⟨hS, hfc, kC, hkC, hkind⟩ := X.K.1 ci _ hc
  obtain ⟨cf, kf, fi, f, hi, hsl⟩ := hS k hk
  have hlay := X.hts _ (hin _ (u_in_lay hk))
  unfold u_lay at hlay
  rw [if_pos hfin] at hlay
  have hst := (u_facts hfc hkC (u_lays X.hts hin hk) hi).1
  have hcf : m.cls = cf := by
    obtain ⟨_, _, c', _, _, _, -, -, hf', -, -, -, hown2, -⟩ := Cond.laysFinal_spec hlay
    have e1 : c' = cf := by have := hi.symm.trans hf'; simp at this; exact this.1.symm
    rw [hdecl] at hown2
    rw [← e1]; exact Option.some.inj (X.own.symm.trans hown2)
  have h6 := u_fits hfc hkC hkind (Or.inr hlay) hi (hty k hk) (hv b base).1 (hv b base).2
  refine W.putFinK X.hx X.hb X.own (X.hts _ hlink) hi hst hcf (X.nm.trans hini) (by rw [q2]; exact h6) q1 q3 (by rw [hsl]; exact k2_hasslot (q4 k hk)) rfl rfl hd fun H' e1 e2 e3 => ?_
  rw [hsl] at e1 ⊢
  exact kk p l e s m args below meth c D b base H' _ ls X (P.up hl ⟨_, hc, fsSet hv0 hk hap e1 q2 q3 q4⟩ e2 e3) (S.put e2 e3 (by rw [hn']; simp only [ad]; omega)) L
theorem sPush {A : Nat → Prop} {H0 H H1 : Heap} {locs : List Loc} (S : va_S A H0 H locs) (z : H1.size = H.size + 1) (oq : ∀ q : Nat, q < H.size → H1[q]? = H[q]?) : va_S A H0 H1 locs := ⟨Nat.le_trans S.1 (by omega), fun x h1 h2 => (oq x (Nat.lt_of_lt_of_le h1 S.1)).trans (S.2.1 x h1 h2), S.2.2⟩
theorem gl_new {ci N index : Nat} {C : String} {T : u_T} {fs : List Value} (hd : decode γ.2.1 pc = .ok (.new index, 3)) (hc : vwCl[ci]? = some (C, T, N)) (hin : ∀ w ∈ u_ws C T N, w ∈ lw_all) (ty : Nat → FieldType) (hty : ∀ k, k < N → parseFieldDescriptor (T k).2.2.1 = some (ty k)) (hcl : Cond.classLink γ.1 index C ∈ lw_all) (hinst : Cond.instantiable C N ∈ lw_all) (hini : Cond.initialized C ∈ lw_all) (hfs : ∀ b base j : Nat, j < N → defaultValue (ty j) = vp_V (fs.map (rv b base)) j) (hp : pok μ) (hcells : cells + 1 ≤ R.cells) (hslots : slots + N ≤ R.slots) (kk : GL γ R K (cells + 1) (slots + N) (pc + 3) lc (.ref μ.1 :: st) (psh μ (.inr (.inr (ci, fs))))) : GL γ R K cells slots pc lc st μ := fun p l e s m args below meth c D b base H locs ls X P S L => by
  have hKn := X.K.1 ci _ hc
  refine W.newcK X.hx X.hb X.own (X.hts _ hcl) (X.hts _ hinst) (X.hts _ hini) rfl hd hcells hslots hKn.2.1 rfl fun H1 kC hkC e1 z1 o1 => ?_
  obtain ⟨P1, ha⟩ := P.psh (c := .inr (.inr (ci, fs))) hp ⟨_, hc, (u_born ty X.hts hin hKn hkC e1 hty).to (hfs b base)⟩ z1 o1
  have := kk p l e s m args below meth c D b base H1 locs ls X P1 (sPush S z1 o1) L
  rw [List.map_cons, show rv b base (.ref μ.1) = .ref (ad b base μ.1) from rfl, ha] at this
  exact this
theorem gl_newa {t N index : Nat} {atype : ArrayType} {i : Int32} (hd : decode γ.2.1 pc = .ok (.newarray atype, 2)) (hat : newarray.typeOf atype = pty t) (harr : Cond.arrayClass (pty t) ∈ lw_all) (hi : i = nI N) (hN : N ≤ 100000) (hp : pok μ) (hcells : cells + 1 ≤ R.cells) (hslots : slots + N ≤ R.slots) (kk : GL γ R K (cells + 1) (slots + N) (pc + 2) lc (.ref μ.1 :: st) (psh μ (.inl (t, N, fun _ => 0)))) : GL γ R K cells slots pc lc (.int i :: st) μ := fun p l e s m args below meth c D b base H locs ls X P S L => by
  subst hi
  have hdv : defaultValue (pty t) = .int 0 := by
    match t with
    | 0 => rfl
    | 1 => rfl
    | _ + 2 => rfl
  have hcb : componentBytes (pty t) ≤ 8 := by
    match t with
    | 0 => decide
    | 1 => decide
    | _ + 2 => exact (by decide : componentBytes .boolean ≤ 8)
  refine va_newaK X.hx X.hb (by rw [hat]; exact X.hts _ harr) rfl hd rfl (nI_pos (show N < 2 ^ 31 by omega)) (nI_clamp (show N < 2 ^ 31 by omega)) ?_ hcells hslots rfl fun H1 cA e1 z1 o1 hAr hNm => ?_
  · rw [hat]
    have := Nat.mul_le_mul hN hcb
    omega
  rw [hat] at e1 hAr hNm
  rw [hdv] at e1
  obtain ⟨P1, ha⟩ := P.psh (c := .inl (t, N, fun _ => 0)) hp ⟨cA, e1, hAr, by
    match t with
    | 0 => exact hNm
    | 1 => exact hNm
    | _ + 2 => exact hNm⟩ z1 o1
  have := kk p l e s m args below meth c D b base H1 locs ls X P1 (sPush S z1 o1) L
  rw [List.map_cons, show rv b base (.ref μ.1) = .ref (ad b base μ.1) from rfl, ha] at this
  exact this
theorem gl_anew {t N index : Nat} {i : Int32} (hd : decode γ.2.1 pc = .ok (.anewarray index, 3)) (hcl : Cond.classLink γ.1 index (rnm t) ∈ lw_all) (hao : Cond.arrayOver (rty t) ∈ nwL) (hi : i = nI N) (hN : N ≤ 100000) (hp : pok μ) (hcells : cells + 1 ≤ R.cells) (hslots : slots + N ≤ R.slots) (kk : GL γ R K (cells + 1) (slots + N) (pc + 3) lc (.ref μ.1 :: st) (psh μ (.inr (.inl (t, N, fun _ => none))))) : GL γ R K cells slots pc lc (.int i :: st) μ := fun p l e s m args below meth c D b base H locs ls X P S L => by
  subst hi
  have hao' : (Cond.arrayOver (rty t)).before args s = true := X.nx.1 _ hao
  have h1 := nI_pos (show N < 2 ^ 31 by omega)
  have h2 := nI_clamp (show N < 2 ^ 31 by omega)
  have fin : ∀ (cA : ClassId) (kA : Class) (comp : ClassId), s.vm.classes[cA]? = some kA → kA.kind = .array comp (rty t) → s.vm.findClass (rnm t) = some comp → W p l e R s m args below meth c (H.push { cls := cA, slots := Array.replicate (nI N).toNatClampNeg .null, vm := .none }) locs (cells + 1) (slots + (nI N).toNatClampNeg) (MQ below (KQ D b base K) args s R.cells R.slots (fun q => base ≤ q)) (F0 m (pc + 3) ls (.ref H.size :: st.map (rv b base))) := by
    intro cA kA comp f2 f3 f4
    rw [h2]
    generalize hH1 : H.push ({ cls := cA, slots := Array.replicate N .null, vm := .none } : Cell) = H1
    have z1 : H1.size = H.size + 1 := by rw [← hH1, Array.size_push]
    have e1 : H1[H.size]? = some (arrV cA N (fun _ => .null)) := by rw [← hH1, Array.getElem?_push_size, ← arrV_new]
    have o1 : ∀ q : Nat, q < H.size → H1[q]? = H[q]? := fun q hq => by rw [← hH1, Array.getElem?_push, if_neg (Nat.ne_of_lt hq)]
    obtain ⟨P1, ha⟩ := P.psh (c := .inr (.inl (t, N, fun _ => none))) hp ⟨cA, e1, fun N z => ⟨(fun k h => by cases h), kA, f2, comp, f3⟩, kA, comp, f2, f3, f4⟩ z1 o1
    have := kk p l e s m args below meth c D b base H1 locs ls X P1 (sPush S z1 o1) L
    rw [List.map_cons, show rv b base (.ref μ.1) = .ref (ad b base μ.1) from rfl, ha] at this
    exact this
  match t, hcl, hao', fin with
  | 0, hcl, hao', fin => exact W.anewA X.hx X.hb X.own (X.hts _ hcl) hao' rfl hd rfl h1 (by rw [h2]; omega) hcells (by rw [h2]; exact hslots) fun cA kA comp f1 f2 f3 f4 => fin cA kA comp f2 f3 f4
  | 1, hcl, hao', fin => exact W.anewA X.hx X.hb X.own (X.hts _ hcl) hao' rfl hd rfl h1 (by rw [h2]; omega) hcells (by rw [h2]; exact hslots) fun cA kA comp f1 f2 f3 f4 => fin cA kA comp f2 f3 f4
  | 2, hcl, hao', fin => exact W.anew X.hx X.hb X.own (X.hts _ hcl) hao' rfl hd rfl h1 (by rw [h2]; omega) hcells (by rw [h2]; exact hslots) fun cA kA comp f1 f2 f3 f4 => fin cA kA comp f2 f3 f4
  | _ + 3, hcl, hao', fin => exact W.anew X.hx X.hb X.own (X.hts _ hcl) hao' rfl hd rfl h1 (by rw [h2]; omega) hcells (by rw [h2]; exact hslots) fun cA kA comp f1 f2 f3 f4 => fin cA kA comp f2 f3 f4
theorem kq {D : va_G} {b base : Nat} {args : Array Value} {s : State} {H : Heap} {locs : List Loc} {v : Option Value} (hK : K v μ) (P : RP s D b base μ H) (S : va_S (fun q => base ≤ q) s.heap H locs) (t : State) (ht : t.heap = H) (hW : s.WarmedH t.vm) : KQ D b base K args s (.returned (v.map (rv b base))) t :=
  ⟨⟨v, μ, rfl, hK, by rw [ht]; exact P.moved hW.alike⟩, S.F ht⟩
theorem gl_iret {v : Int32} (hd : decode γ.2.1 pc = .ok (.ireturn, 1)) (hr : γ.2.2.2.1 = some .int) (hK : K (some (.int v)) μ) (hc : cells ≤ R.cells := by first | exact Nat.zero_le _ | decide | omega) (hs : slots ≤ R.slots := by first | exact Nat.zero_le _ | decide | omega) : GL γ R K cells slots pc lc [.int v] μ := fun p l e s m args below meth c D b base H locs ls X P S L =>
  W.widen hc hs (W.iret X.hx X.hb (X.hr.trans hr) (fun t ht hW => kq hK P S t ht hW) S.2.2 hd X.lks)
theorem gl_zret {v : Int32} (hd : decode γ.2.1 pc = .ok (.ireturn, 1)) (hr : γ.2.2.2.1 = some .boolean) (hz : v &&& 1 = v) (hK : K (some (.int v)) μ) (hc : cells ≤ R.cells := by first | exact Nat.zero_le _ | decide | omega) (hs : slots ≤ R.slots := by first | exact Nat.zero_le _ | decide | omega) : GL γ R K cells slots pc lc [.int v] μ := fun p l e s m args below meth c D b base H locs ls X P S L =>
  W.widen hc hs (W.zret X.hx X.hb (X.hr.trans hr) (by show Value.int (v &&& 1) = _; rw [hz]) (fun t ht hW => kq hK P S t ht hW) S.2.2 hd X.lks)
theorem gl_lret {v : Int64} (hd : decode γ.2.1 pc = .ok (.lreturn, 1)) (hr : γ.2.2.2.1 = some .long) (hK : K (some (.long v)) μ) (hc : cells ≤ R.cells := by first | exact Nat.zero_le _ | decide | omega) (hs : slots ≤ R.slots := by first | exact Nat.zero_le _ | decide | omega) : GL γ R K cells slots pc lc [.long v] μ := fun p l e s m args below meth c D b base H locs ls X P S L =>
  W.widen hc hs (W.lret X.hx X.hb (X.hr.trans hr) (fun t ht hW => kq hK P S t ht hW) S.2.2 hd X.lks)
theorem gl_vret (hd : decode γ.2.1 pc = .ok (.return_, 1)) (hr : γ.2.2.2.1 = none) (hK : K none μ) (hc : cells ≤ R.cells := by first | exact Nat.zero_le _ | decide | omega) (hs : slots ≤ R.slots := by first | exact Nat.zero_le _ | decide | omega) : GL γ R K cells slots pc lc [] μ := fun p l e s m args below meth c D b base H locs ls X P S L =>
  W.widen hc hs (W.vret X.hx X.hb (X.hr.trans hr) (fun t ht hW => kq hK P S t ht hW) S.2.2 hd X.lks)
theorem gl_aret {n : Nat} {rt : FieldType} (hd : decode γ.2.1 pc = .ok (.areturn, 1)) (hr : γ.2.2.2.1 = some rt) (hrt : (∃ n, rt = .object n) ∨ ∃ t, rt = .array t) (hK : K (some (.ref n)) μ) (hc : cells ≤ R.cells := by first | exact Nat.zero_le _ | decide | omega) (hs : slots ≤ R.slots := by first | exact Nat.zero_le _ | decide | omega) : GL γ R K cells slots pc lc [.ref n] μ := fun p l e s m args below meth c D b base H locs ls X P S L =>
  W.widen hc hs (W.aret X.hx X.hb (X.hr.trans hr) hrt (Or.inr ⟨_, rfl⟩) (fun t ht hW => kq hK P S t ht hW) S.2.2 hd X.lks)
theorem gl_objInit {idx n : Nat} (hd : decode γ.2.1 pc = .ok (.invokespecial idx, 3)) (h1 : Cond.methodLink γ.1 idx Lib.objectInit ∈ lw_all) (h2 : Cond.instanceMethod Lib.objectInit ∈ lw_all) (h3 : Cond.code Lib.objectInit ⟨#[0xb1]⟩ 1 none ∈ lw_all) (hfr : 1 ≤ R.frames) (hlo : (st.map fun v => v.category).sum + 12 ≤ R.locals) (kk : GL γ R K cells slots (pc + 3) lc st μ) : GL γ R K cells slots pc lc (.ref n :: st) μ := fun p l e s m args below meth c D b base H locs ls X P S L =>
  W.objInit X.hx X.hb X.own (X.hts _ h1) (X.hts _ h2) (X.hts _ h3) rfl (by rw [X.ml]; exact L.1) rfl hd hfr (by have e : (F0 m pc ls ((Value.ref n :: st).map (rv b base))).monitorRoom = 0 := rfl; rw [e, rv_cats]; omega) (kk p l e s m args below meth c D b base H locs ls X P S L)
end GLf
