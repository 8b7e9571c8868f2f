/-! the component's rows and texts: what is thrown and caught -/
set_option maxRecDepth 100000
section SRs
variable {args : Array Value} {s : State} {own cls nm : String} {pc h : Nat} {x : Nat × Nat × Nat × Nat} {t : List (Nat × Nat × Nat × Nat)}
theorem srch_hit (nm : String) (hin : x.1 ≤ pc ∧ pc < x.2.1) (h0 : x.2.2.2 ≠ 0) (hl : (Cond.classLink own x.2.2.2 nm).before args s = true) (hc : va_Nw (Cond.castable cls nm) s) (hh : h = x.2.2.1) : srch args s own cls pc h (x :: t) := ⟨fun _ => ⟨h0, nm, hl, Or.inl ⟨hh, by
  obtain ⟨c0, t0, f1, f2, f3⟩ := Cond.castable_spec (va_Nw.use (A := args) rfl hc)
  exact ⟨c0, t0, f1, f2, f3⟩⟩⟩, fun q => absurd hin q⟩
theorem srch_miss (nm : String) (hin : x.1 ≤ pc ∧ pc < x.2.1) (h0 : x.2.2.2 ≠ 0) (hl : (Cond.classLink own x.2.2.2 nm).before args s = true) (hn : va_Nc cls nm s) (ht : srch args s own cls pc h t) : srch args s own cls pc h (x :: t) := ⟨fun _ => ⟨h0, nm, hl, Or.inr ⟨hn, ht⟩⟩, fun q => absurd hin q⟩
theorem srch_out (hout : ¬ (x.1 ≤ pc ∧ pc < x.2.1)) (ht : srch args s own cls pc h t) : srch args s own cls pc h (x :: t) := ⟨fun q => absurd q hout, fun _ => ht⟩
end SRs
abbrev eNASE : String := "java/lang/NegativeArraySizeException"
abbrev eNPE : String := "java/lang/NullPointerException"
abbrev eAIO : String := "java/lang/ArrayIndexOutOfBoundsException"
abbrev eAE : String := "java/lang/ArithmeticException"
theorem nc_A : ((eAIO, eNPE) : String × String) ∈ ncL := List.mem_of_getElem? (i := 23) rfl
theorem nc_E : ((eAE, eNPE) : String × String) ∈ ncL := List.mem_of_getElem? (i := 24) rfl
section EXs
variable {γ : GG} {R : Room} {K : Option Value → Mem → Prop} {cells slots pc : Nat} {lc : List (Option Value)} {st : List Value} {μ : Mem} {h : Nat}
theorem gl_nase {i : Int32} {atype : ArrayType} (hd : decode γ.2.1 pc = .ok (.newarray atype, 2)) (hi : i < 0) (hroom : Nat.ble (st.map fun v => v.category).sum 8 = true) (hR : 10 ≤ R.frames ∧ 10248 ≤ R.locals) (hc : cells + 3 ≤ R.cells) (hs : slots + (44 + 10) ≤ R.slots) (hpos : 1 ≤ μ.1) (hex : γ.2.2.2.2.2 ≠ []) (hsr : Sr γ eNASE pc h) (kk : GL γ R K (cells + 3) (slots + (44 + 10)) h lc [.ref (μ.1 + 2)] (μ.1 + 3, μ.2)) : GL γ R K cells slots pc lc (.int i :: st) μ :=
  gl_exM (names := rEx) (rz_newa hd hi) (by decide +kernel) (by decide +kernel) (by decide +kernel) (by decide +kernel) arm_NASE (negative_text_modelled hi) (negative_text_bytes i) (by omega) hroom (by decide) hR hc hs hpos hex hsr kk
theorem gl_aioI {i : Int32} {n k : Nat} {f : Nat → Int32} (hd : decode γ.2.1 pc = .ok (.iaload, 1)) (hl : lk μ n = some (.inl (0, k, f))) (hi : i < 0 ∨ k ≤ i.toNatClampNeg) (hk : k < 2 ^ 31) (hroom : Nat.ble (st.map fun v => v.category).sum 8 = true) (hR : 10 ≤ R.frames ∧ 10248 ≤ R.locals) (hc : cells + 3 ≤ R.cells) (hs : slots + (212 + 10) ≤ R.slots) (hpos : 1 ≤ μ.1) (hex : γ.2.2.2.2.2 ≠ []) (hsr : Sr γ eAIO pc h) (kk : GL γ R K (cells + 3) (slots + (212 + 10)) h lc [.ref (μ.1 + 2)] (μ.1 + 3, μ.2)) : GL γ R K cells slots pc lc (.int i :: .ref n :: st) μ :=
  gl_exM (names := "java/lang/IndexOutOfBoundsException" :: rEx) (rz_ialdB hd hl hi) (by decide +kernel) (by decide +kernel) (by decide +kernel) (by decide +kernel) arm_AIOOBE (ixT_m i k) (ixT_b i hk) (by omega) hroom (by decide) hR hc hs hpos hex hsr kk
theorem gl_aioB {i : Int32} {n k : Nat} {f : Nat → Int32} (hd : decode γ.2.1 pc = .ok (.baload, 1)) (hl : lk μ n = some (.inl (1, k, f))) (hi : i < 0 ∨ k ≤ i.toNatClampNeg) (hk : k < 2 ^ 31) (hroom : Nat.ble (st.map fun v => v.category).sum 8 = true) (hR : 10 ≤ R.frames ∧ 10248 ≤ R.locals) (hc : cells + 3 ≤ R.cells) (hs : slots + (212 + 10) ≤ R.slots) (hpos : 1 ≤ μ.1) (hex : γ.2.2.2.2.2 ≠ []) (hsr : Sr γ eAIO pc h) (kk : GL γ R K (cells + 3) (slots + (212 + 10)) h lc [.ref (μ.1 + 2)] (μ.1 + 3, μ.2)) : GL γ R K cells slots pc lc (.int i :: .ref n :: st) μ :=
  gl_exM (names := "java/lang/IndexOutOfBoundsException" :: rEx) (rz_baldB hd hl hi) (by decide +kernel) (by decide +kernel) (by decide +kernel) (by decide +kernel) arm_AIOOBE (ixT_m i k) (ixT_b i hk) (by omega) hroom (by decide) hR hc hs hpos hex hsr kk
theorem gl_ae {x : Int64} (hd : decode γ.2.1 pc = .ok (.ldiv, 1)) (hroom : Nat.ble (st.map fun v => v.category).sum 8 = true) (hR : 10 ≤ R.frames ∧ 10248 ≤ R.locals) (hc : cells + 3 ≤ R.cells) (hs : slots + (40 + 10) ≤ R.slots) (hpos : 1 ≤ μ.1) (hex : γ.2.2.2.2.2 ≠ []) (hsr : Sr γ eAE pc h) (kk : GL γ R K (cells + 3) (slots + (40 + 10)) h lc [.ref (μ.1 + 2)] (μ.1 + 3, μ.2)) : GL γ R K cells slots pc lc (.long 0 :: .long x :: st) μ :=
  gl_exM (names := rEx) (rz_ldiv hd) (by decide +kernel) (by decide +kernel) (by decide +kernel) (by decide +kernel) arm_AE (by decide +kernel) (by decide +kernel) (by omega) hroom (by decide) hR hc hs hpos hex hsr kk
end EXs
theorem exR {L a b : Nat} (h : 10 ≤ L) : 10 ≤ (rm L a b).frames ∧ 10248 ≤ (rm L a b).locals := ⟨h, by show 10248 ≤ 11000 + 64 * L; omega⟩
theorem sr_row : Sr gX0_row eNASE 21 26 := fun D b base p l s m args meth c X => srch_hit eNASE (by decide) (by decide) (X.hts _ q209) (X.nx.1 _ n272) rfl
theorem sr_text : Sr gX0_text eNASE 16 49 := fun D b base p l s m args meth c X => srch_hit eNASE (by decide) (by decide) (X.hts _ q209) (X.nx.1 _ n272) rfl
theorem sr_atN : Sr gX0_at eNPE 17 23 := fun D b base p l s m args meth c X => srch_hit eNPE (by decide) (by decide) (X.hts _ q313) (X.nx.1 _ n335) rfl
theorem sr_atB : Sr gX0_at eAIO 17 30 := fun D b base p l s m args meth c X => srch_miss eNPE (by decide) (by decide) (X.hts _ q313) (X.nx.2.1 _ nc_A) (srch_hit eAIO (by decide) (by decide) (X.hts _ q338) (X.nx.1 _ n353) rfl)
theorem sr_putN : Sr gX0_put eNPE 16 36 := fun D b base p l s m args meth c X => srch_hit eNPE (by decide) (by decide) (X.hts _ q313) (X.nx.1 _ n335) rfl
theorem sr_putB : Sr gX0_put eAIO 16 44 := fun D b base p l s m args meth c X => srch_miss eNPE (by decide) (by decide) (X.hts _ q313) (X.nx.2.1 _ nc_A) (srch_hit eAIO (by decide) (by decide) (X.hts _ q338) (X.nx.1 _ n353) rfl)
theorem sr_meanN : Sr gX0_mean eNPE 21 70 := fun D b base p l s m args meth c X => srch_hit eNPE (by decide) (by decide) (X.hts _ q313) (X.nx.1 _ n335) rfl
theorem sr_meanE : Sr gX0_mean eAE 63 77 := fun D b base p l s m args meth c X => srch_miss eNPE (by decide) (by decide) (X.hts _ q313) (X.nx.2.1 _ nc_E) (srch_hit eAE (by decide) (by decide) (X.hts _ q378) (X.nx.1 _ n390) rfl)
section NLs
variable {γ : GG} {R : Room} {K : Option Value → Mem → Prop} {cells slots pc : Nat} {lc : List (Option Value)} {st : List Value} {μ : Mem}
theorem gl_aload_nN {k : Fin 4} (hd : decode γ.2.1 pc = .ok (.aload_n k, 1)) (hl : lc[(k : Nat)]? = some (some .null)) (kk : GL γ R K cells slots (pc + 1) lc (.null :: st) μ) : GL γ R K cells slots (pc) lc (st) μ := fun p l e s m args below meth c D b base H locs ls X P S L => lv_aload_nN X.hx X.hb hd rfl (L.2.2 _ _ hl) (kk p l e s m args below meth c D b base H locs ls X P S L)
theorem gl_aloadN {i : Nat} (hd : decode γ.2.1 pc = .ok (.aload i, 2)) (hl : lc[i]? = some (some .null)) (kk : GL γ R K cells slots (pc + 2) lc (.null :: st) μ) : GL γ R K cells slots (pc) lc (st) μ := fun p l e s m args below meth c D b base H locs ls X P S L => lv_aloadN X.hx X.hb hd (L.2.2 _ _ hl) (kk p l e s m args below meth c D b base H locs ls X P S L)
theorem gl_astore_nN {k : Fin 4} (hd : decode γ.2.1 pc = .ok (.astore_n k, 1)) (hn : Nat.ble ((k : Nat) + 1) γ.2.2.1 = true) (hk : okPut lc (k : Nat) = true) (kk : GL γ R K cells slots (pc + 1) (lc.set (k : Nat) (some .null)) (st) μ) : GL γ R K cells slots (pc) lc (.null :: st) μ := fun p l e s m args below meth c D b base H locs ls X P S L => lv_astore_nN X.hx X.hb hd rfl L.has (Nat.le_of_ble_eq_true hn) rfl (fun ls' h' => kk p l e s m args below meth c D b base H locs ls' X P S (lc_back1 (v := .null) (rv_cat b base) hk h'))
theorem gl_astoreN {i : Nat} (hd : decode γ.2.1 pc = .ok (.astore i, 2)) (hn : Nat.ble (i + 1) γ.2.2.1 = true) (hk : okPut lc i = true) (kk : GL γ R K cells slots (pc + 2) (lc.set i (some .null)) (st) μ) : GL γ R K cells slots (pc) lc (.null :: st) μ := fun p l e s m args below meth c D b base H locs ls X P S L => lv_astoreN X.hx X.hb hd L.has (Nat.le_of_ble_eq_true hn) rfl (fun ls' h' => kk p l e s m args below meth c D b base H locs ls' X P S (lc_back1 (v := .null) (rv_cat b base) hk h'))
end NLs
theorem inR_out {i : Int32} {s : Nat} (hs : s < 2 ^ 31) (h : ¬ inR i 0 (nI s - 1) = true) : i < 0 ∨ s ≤ i.toNatClampNeg := by
  by_cases h0 : i < 0
  · exact Or.inl h0
  · obtain ⟨j, hj, rfl⟩ := nI_of h0
    rw [nI_clamp hj]
    exact Or.inr (Nat.le_of_not_lt (fun q => h (inR_k hs q)))
theorem up_twice {α : Type} (f : Nat → α) (k : Nat) (a b : α) : va_up (va_up f k a) k b = va_up f k b := by
  funext j
  simp only [va_up]
  by_cases h : j = k <;> simp [h]
theorem i8_twice (v : Int32) : v.toInt8.toInt32.toInt8.toInt32 = v.toInt8.toInt32 := by simp
theorem nfw_copy : nativeFrameWords "java/lang/System" "arraycopy" 5 = 7 := by decide +kernel
theorem copyR {L a b : Nat} (h : 1 ≤ L) : 1 ≤ (rm L a b).frames ∧ 8 + (nativeFrameWords "java/lang/System" "arraycopy" 5 + 11) ≤ (rm L a b).locals := ⟨h, by rw [nfw_copy]; show 8 + (7 + 11) ≤ 11000 + 64 * L; omega⟩

