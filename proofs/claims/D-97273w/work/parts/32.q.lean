/-! matchings: gone through (the model) -/
set_option maxRecDepth 100000
def it {σ : Type} (f : Nat → σ → σ) (s : σ) : Nat → σ
  | 0 => s
  | k + 1 => f k (it f s k)
/-- all matchings from question q on, r questions left: cards first, none last -/
def wk {σ : Type} (may : Nat → Nat → Bool) (wt : Nat → Int32) (n : Nat) (V : (Nat → Int32) → Int32 → σ → σ) : Nat → Nat → (Nat → Bool) → (Nat → Int32) → Int32 → σ → σ
  | 0, _, _, ch, sum, s => V ch sum s
  | r + 1, q, used, ch, sum, s => wk may wt n V r (q + 1) used (upd ch q (nI n)) sum (it (fun c u => if may q c && !used c then wk may wt n V r (q + 1) (upB used c true) (upd ch q (nI c)) (sum + wt q) u else u) s n)
theorem bstF_eq {a b : Nat → Int32} {n : Nat} {f : Nat → Int32} : ∀ {m : Nat}, (∀ q, q < m → a q = b q) → bstF a n f m = bstF b n f m := by
  intro m
  induction m with
  | zero => intro _; rfl
  | succ m ih => intro h; simp only [bstF]; rw [ih (fun q hq => h q (by omega)), h m (by omega)]
theorem wthF_eq {a b : Nat → Int32} {n : Nat} {f : Nat → Int32} : ∀ {m : Nat}, (∀ q, q < m → a q = b q) → wthF a n f m = wthF b n f m := by
  intro m
  induction m with
  | zero => intro _; rfl
  | succ m ih => intro h; simp only [wthF]; rw [ih (fun q hq => h q (by omega)), h m (by omega)]
theorem vis_eq {a b : Nat → Int32} {n m : Nat} (h : ∀ q, q < m → a q = b q) (sum : Int32) (s : QS) : vis n m a sum s = vis n m b sum s := by
  unfold vis vis2 vis1
  rw [bstF_eq h]
  split
  · rw [wthF_eq h]
  · rw [wthF_eq h]
def wtI (w : Nat → Int32) (b : Bool) (q : Nat) : Int32 := if b then w (52 + q) else nI 1
theorem nI_dec (k : Nat) : nI (k + 1) + Int32.ofInt (-1) = nI k := by
  rw [← nI_pred k, Int32.sub_eq_add_neg]
  rfl
theorem upB_back {p : Nat → Bool} {c : Nat} (h : p c = false) : upB (upB p c true) c false = p := by
  funext j
  unfold upB
  by_cases e : j = c
  · rw [if_pos e, e, h]
  · rw [if_neg e, if_neg e]
section MY2
variable (L : Nat) (o : OY) (y : MY) {n m t : Nat}
theorem mq_28 (A B : Nat → Int32) (u : QS) : up (mM o (mqS y A u)) 28 (.inl (0, 7, B)) = mM o (mqS y B u) := rfl
theorem mq_A (A : Nat → Int32) (u : QS) : (mqS y A u).2.2 28 = A := rfl
def lcM (n m : Nat) (b : Bool) (q used sum : Int32) : List (Option Value) := [some (.ref 18), some (.int (bI b)), some (.int (nI m)), some (.int (nI n)), some (.int q), some (.int used), some (.int sum), none, none]
theorem m_nx (hL : Lb (y.2.2 23) n m t) (b : Bool) (K : Option Value → Mem → Prop) (q : Nat) (hq : q < m) (used' : Nat → Bool) (sum' : Int32) (u : QS) (A : Nat → Int32) (k1 : q + 1 = m → GL gX1_layMatchings (rm (L + 14) 0 0) K 0 0 35 (lcM n m b (nI (q + 1)) (orI used' n) sum') [] (mM o (mqS y A u))) (k2 : q + 1 < m → GL gX1_layMatchings (rm (L + 14) 0 0) K 0 0 35 (lcM n m b (nI (q + 1)) (orI used' n) sum') [] (mM o (mqS y (upd A (q + 1) (-1)) u))) : GL gX1_layMatchings (rm (L + 14) 0 0) K 0 0 214 [some (.ref 18), some (.int (bI b)), some (.int (nI m)), some (.int (nI n)), some (.int (nI q)), some (.int (orI used' n)), some (.int sum'), none, none] [] (mM o (mqS y A u)) := by
  have h7q := hL.q7
  refine gl_iinc (v := (nI (q + 1))) dX1_layMatchings_214 rfl (nI_1 _) rfl rfl ?_
  refine gl_iload dX1_layMatchings_217 rfl ?_
  refine gl_iload_n dX1_layMatchings_219 rfl ?_
  refine gl_icmp_ge (tgt := 231) dX1_layMatchings_220 (by decide) (fun h220 => ?_) (fun h220 => ?_)
  · have hr : q + 1 = m := by
      have := (nI_leI (by omega) (by omega)).mp h220
      omega
    refine gl_goto (tgt := 35) dX1_layMatchings_231 (by decide) ?_
    exact k1 hr
  · have hr : q + 1 < m := by
      have := mt (nI_leI (by omega) (by omega)).mpr h220
      omega
    refine gl_aload_n dX1_layMatchings_223 rfl ?_
    refine gl_get (k := 14) dX1_layMatchings_224 rfl (rfl : vwCl[1]? = some (RX1, TX1, 21)) in_X1 (by decide) q1034 rfl ?_
    refine gl_iload dX1_layMatchings_227 rfl ?_
    refine gl_iconst (v := (-1)) dX1_layMatchings_229 (by decide) ?_
    refine gl_iast (j := (q + 1)) dX1_layMatchings_230 rfl (by simp only [nI_add, nI_mul]) (by omega) ?_
    refine gl_goto (tgt := 35) dX1_layMatchings_231 (by decide) ?_
    refine gl_mem (mq_28 o y A _ u) ?_
    rw [mq_A]
    exact k2 hr
def lcT (n m : Nat) (b : Bool) (q used sum c : Int32) : List (Option Value) := [some (.ref 18), some (.int (bI b)), some (.int (nI m)), some (.int (nI n)), some (.int q), some (.int used), some (.int sum), none, some (.int c)]
theorem m_back (hL : Lb (y.2.2 23) n m t) (b : Bool) (K : Option Value → Mem → Prop) (q c : Nat) (hq : q < m) (hc : c < n) (used : Nat → Bool) (hu : used c = false) (sum : Int32) (u : QS) (A : Nat → Int32) (hA : A q = nI c) (k : GL gX1_layMatchings (rm (L + 14) 0 0) K 0 0 121 (lcT n m b (nI q) (orI used n) sum (nI (c + 1))) [] (mM o (mqS y A u))) : GL gX1_layMatchings (rm (L + 14) 0 0) K 0 0 35 (lcM n m b (nI q) (orI (upB used c true) n) (sum + wtI (y.2.2 23) b q)) [] (mM o (mqS y A u)) := by
  have h7 := hL.c7
  have h7q := hL.q7
  refine gl_iload dX1_layMatchings_35 rfl ?_
  refine gl_if_lt (tgt := 234) dX1_layMatchings_37 (by decide) (fun h => absurd h (nI_pos (by omega))) (fun _ => ?_)
  refine gl_iload dX1_layMatchings_40 rfl ?_
  refine gl_iload_n dX1_layMatchings_42 rfl ?_
  refine gl_icmp_ne (tgt := 58) dX1_layMatchings_43 (by decide) (fun _ => ?_) (fun h => absurd h (fun z => by have := (nI_eq (by omega) (by omega)).mp z; omega))
  refine gl_aload_n dX1_layMatchings_58 rfl ?_
  refine gl_get (k := 14) dX1_layMatchings_59 rfl (rfl : vwCl[1]? = some (RX1, TX1, 21)) in_X1 (by decide) q1034 rfl ?_
  refine gl_iload dX1_layMatchings_62 rfl ?_
  refine gl_iald (j := q) dX1_layMatchings_64 rfl rfl (by omega) ?_
  refine gl_top (w := .int (nI c)) (by rw [mq_A, hA]) ?_
  refine gl_istore dX1_layMatchings_65 rfl rfl ?_
  refine gl_iload dX1_layMatchings_67 rfl ?_
  refine gl_i2l dX1_layMatchings_69 ?_
  refine gl_lconst (v := 0) dX1_layMatchings_70 (by decide) ?_
  refine gl_iload_n dX1_layMatchings_71 rfl ?_
  refine gl_iconst (v := nI 1) dX1_layMatchings_72 (by decide) ?_
  refine gl_isub dX1_layMatchings_73 ?_
  refine gl_i2l dX1_layMatchings_74 ?_
  refine gl_callS (m_in_i L _ _ 0 (nI n - nI 1) rfl rfl) dX1_layMatchings_75 q1093 q1094 q75 q1095 rfl hX1_in rfl rfl (rmOk (by omega) rfl) ⟨by first | exact Nat.le_refl _ | exact Nat.zero_le _ | decide | (dsimp only [rm]; omega), by first | exact Nat.le_refl _ | exact Nat.zero_le _ | decide | (dsimp only [rm]; omega)⟩ (rt1 ?_)
  refine gl_if_eq (tgt := 115) dX1_layMatchings_78 (by decide) (fun h => absurd h (by rw [show inR (nI c) 0 (nI n - nI 1) = true from inR_k (by omega) hc]; decide)) (fun _ => ?_)
  refine gl_iload dX1_layMatchings_81 rfl ?_
  refine gl_iconst (v := nI 1) dX1_layMatchings_83 (by decide) ?_
  refine gl_iload dX1_layMatchings_84 rfl ?_
  refine gl_ishl dX1_layMatchings_86 ?_
  refine gl_iconst (v := (-1)) dX1_layMatchings_87 (by decide) ?_
  refine gl_ixor dX1_layMatchings_88 ?_
  refine gl_iand dX1_layMatchings_89 ?_
  refine gl_top (w := .int (orI used n)) (by rw [orI_del _ (by omega) hc, upB_back hu]) ?_
  refine gl_istore dX1_layMatchings_90 rfl rfl ?_
  refine gl_iload dX1_layMatchings_92 rfl ?_
  refine gl_iload_n dX1_layMatchings_94 rfl ?_
  have t4 : GL gX1_layMatchings (rm (L + 14) 0 0) K 0 0 113 [some (.ref 18), some (.int (bI b)), some (.int (nI m)), some (.int (nI n)), some (.int (nI q)), some (.int (orI used n)), some (.int (sum + wtI (y.2.2 23) b q)), some (.int (nI c)), none] [.int (sum + wtI (y.2.2 23) b q - wtI (y.2.2 23) b q)] (mM o (mqS y A u)) := by
    refine gl_top (w := .int sum) (by rw [Int32.add_sub_cancel]) ?_
    refine gl_istore dX1_layMatchings_113 rfl rfl ?_
    refine gl_iload dX1_layMatchings_115 rfl ?_
    refine gl_iconst (v := nI 1) dX1_layMatchings_117 (by decide) ?_
    refine gl_iadd dX1_layMatchings_118 ?_
    refine gl_top (w := .int (nI (c + 1))) (by rw [nI_add]) ?_
    refine gl_istore dX1_layMatchings_119 rfl rfl ?_
    refine gl_drop 7 ?_
    exact k
  cases b with
  | true =>
    refine gl_if_eq (tgt := 111) dX1_layMatchings_95 (by decide) (fun h => absurd h (by decide)) (fun _ => ?_)
    refine gl_aload_n dX1_layMatchings_98 rfl ?_
    refine gl_get (k := 4) dX1_layMatchings_99 rfl (rfl : vwCl[1]? = some (RX1, TX1, 21)) in_X1 (by decide) q1024 rfl ?_
    refine gl_bipush (v := nI 52) dX1_layMatchings_102 (by decide) ?_
    refine gl_iload dX1_layMatchings_104 rfl ?_
    refine gl_iadd dX1_layMatchings_106 ?_
    refine gl_iald (j := (52 + q)) dX1_layMatchings_107 rfl (by simp only [nI_add, nI_mul]) (by omega) ?_
    refine gl_goto (tgt := 112) dX1_layMatchings_108 (by decide) ?_
    refine gl_isub dX1_layMatchings_112 ?_
    exact t4
  | false =>
    refine gl_if_eq (tgt := 111) dX1_layMatchings_95 (by decide) (fun _ => ?_) (fun h => absurd (rfl) h)
    refine gl_iconst (v := nI 1) dX1_layMatchings_111 (by decide) ?_
    refine gl_isub dX1_layMatchings_112 ?_
    exact t4
theorem m_fwd (hL : Lb (y.2.2 23) n m t) (b : Bool) (K : Option Value → Mem → Prop) (q c : Nat) (hq : q < m) (hc : c < n) (used : Nat → Bool) (sum : Int32) (u : QS) (A : Nat → Int32) (k : GL gX1_layMatchings (rm (L + 14) 0 0) K 0 0 214 [some (.ref 18), some (.int (bI b)), some (.int (nI m)), some (.int (nI n)), some (.int (nI q)), some (.int (orI (upB used c true) n)), some (.int (sum + wtI (y.2.2 23) b q)), none, none] [] (mM o (mqS y (upd A q (nI c)) u))) : GL gX1_layMatchings (rm (L + 14) 0 0) K 0 0 155 (lcT n m b (nI q) (orI used n) sum (nI c)) [] (mM o (mqS y A u)) := by
  have h7 := hL.c7
  have h7q := hL.q7
  refine gl_aload_n dX1_layMatchings_155 rfl ?_
  refine gl_get (k := 14) dX1_layMatchings_156 rfl (rfl : vwCl[1]? = some (RX1, TX1, 21)) in_X1 (by decide) q1034 rfl ?_
  refine gl_iload dX1_layMatchings_159 rfl ?_
  refine gl_iload dX1_layMatchings_161 rfl ?_
  refine gl_iast (j := q) dX1_layMatchings_163 rfl rfl (by omega) ?_
  refine gl_mem (mq_28 o y A _ u) ?_
  rw [mq_A]
  refine gl_iload dX1_layMatchings_164 rfl ?_
  refine gl_iload_n dX1_layMatchings_166 rfl ?_
  refine gl_icmp_le (tgt := 176) dX1_layMatchings_167 (by decide) (fun _ => ?_) (fun h => absurd (nI_le (by omega) (by omega)) h)
  refine gl_iload dX1_layMatchings_176 rfl ?_
  refine gl_iload_n dX1_layMatchings_178 rfl ?_
  refine gl_icmp_ge (tgt := 214) dX1_layMatchings_179 (by decide) (fun h => absurd h (nI_ge hc (by omega))) (fun _ => ?_)
  refine gl_iload dX1_layMatchings_182 rfl ?_
  refine gl_iconst (v := nI 1) dX1_layMatchings_184 (by decide) ?_
  refine gl_iload dX1_layMatchings_185 rfl ?_
  refine gl_ishl dX1_layMatchings_187 ?_
  refine gl_ior dX1_layMatchings_188 ?_
  refine gl_top (w := .int (orI (upB used c true) n)) (by rw [orI_put _ (by omega) hc]) ?_
  refine gl_istore dX1_layMatchings_189 rfl rfl ?_
  refine gl_iload dX1_layMatchings_191 rfl ?_
  refine gl_iload_n dX1_layMatchings_193 rfl ?_
  cases b with
  | true =>
    refine gl_if_eq (tgt := 210) dX1_layMatchings_194 (by decide) (fun h => absurd h (by decide)) (fun _ => ?_)
    refine gl_aload_n dX1_layMatchings_197 rfl ?_
    refine gl_get (k := 4) dX1_layMatchings_198 rfl (rfl : vwCl[1]? = some (RX1, TX1, 21)) in_X1 (by decide) q1024 rfl ?_
    refine gl_bipush (v := nI 52) dX1_layMatchings_201 (by decide) ?_
    refine gl_iload dX1_layMatchings_203 rfl ?_
    refine gl_iadd dX1_layMatchings_205 ?_
    refine gl_iald (j := (52 + q)) dX1_layMatchings_206 rfl (by simp only [nI_add, nI_mul]) (by omega) ?_
    refine gl_goto (tgt := 211) dX1_layMatchings_207 (by decide) ?_
    refine gl_iadd dX1_layMatchings_211 ?_
    refine gl_istore dX1_layMatchings_212 rfl rfl ?_
    refine gl_drop 8 ?_
    exact k
  | false =>
    refine gl_if_eq (tgt := 210) dX1_layMatchings_194 (by decide) (fun _ => ?_) (fun h => absurd (rfl) h)
    refine gl_iconst (v := nI 1) dX1_layMatchings_210 (by decide) ?_
    refine gl_iadd dX1_layMatchings_211 ?_
    refine gl_istore dX1_layMatchings_212 rfl rfl ?_
    refine gl_drop 8 ?_
    exact k
theorem m_none (hL : Lb (y.2.2 23) n m t) (b : Bool) (K : Option Value → Mem → Prop) (q : Nat) (hq : q < m) (used : Nat → Bool) (sum : Int32) (u : QS) (A : Nat → Int32) (k : GL gX1_layMatchings (rm (L + 14) 0 0) K 0 0 214 [some (.ref 18), some (.int (bI b)), some (.int (nI m)), some (.int (nI n)), some (.int (nI q)), some (.int (orI used n)), some (.int sum), none, none] [] (mM o (mqS y (upd A q (nI n)) u))) : GL gX1_layMatchings (rm (L + 14) 0 0) K 0 0 121 (lcT n m b (nI q) (orI used n) sum (nI n)) [] (mM o (mqS y A u)) := by
  have h7 := hL.c7
  have h7q := hL.q7
  refine gl_iload dX1_layMatchings_121 rfl ?_
  refine gl_iload_n dX1_layMatchings_123 rfl ?_
  refine gl_icmp_ge (tgt := 155) dX1_layMatchings_124 (by decide) (fun _ => ?_) (fun h => absurd (nI_le (Nat.le_refl _) (by omega)) h)
  refine gl_aload_n dX1_layMatchings_155 rfl ?_
  refine gl_get (k := 14) dX1_layMatchings_156 rfl (rfl : vwCl[1]? = some (RX1, TX1, 21)) in_X1 (by decide) q1034 rfl ?_
  refine gl_iload dX1_layMatchings_159 rfl ?_
  refine gl_iload dX1_layMatchings_161 rfl ?_
  refine gl_iast (j := q) dX1_layMatchings_163 rfl rfl (by omega) ?_
  refine gl_mem (mq_28 o y A _ u) ?_
  rw [mq_A]
  refine gl_iload dX1_layMatchings_164 rfl ?_
  refine gl_iload_n dX1_layMatchings_166 rfl ?_
  refine gl_icmp_le (tgt := 176) dX1_layMatchings_167 (by decide) (fun _ => ?_) (fun h => absurd (nI_le (Nat.le_refl _) (by omega)) h)
  refine gl_iload dX1_layMatchings_176 rfl ?_
  refine gl_iload_n dX1_layMatchings_178 rfl ?_
  refine gl_icmp_ge (tgt := 214) dX1_layMatchings_179 (by decide) (fun _ => ?_) (fun h => absurd (nI_le (Nat.le_refl _) (by omega)) h)
  refine gl_drop 8 ?_
  exact k
theorem m_backN (hL : Lb (y.2.2 23) n m t) (b : Bool) (K : Option Value → Mem → Prop) (q : Nat) (hq : q < m) (used : Nat → Bool) (sum : Int32) (u : QS) (A : Nat → Int32) (hA : A q = nI n) (k : GL gX1_layMatchings (rm (L + 14) 0 0) K 0 0 35 (lcM n m b (nI q + Int32.ofInt (-1)) (orI used n) sum) [] (mM o (mqS y (upd A q (nI (n + 1))) u))) : GL gX1_layMatchings (rm (L + 14) 0 0) K 0 0 35 (lcM n m b (nI q) (orI used n) sum) [] (mM o (mqS y A u)) := by
  have h7 := hL.c7
  have h7q := hL.q7
  refine gl_iload dX1_layMatchings_35 rfl ?_
  refine gl_if_lt (tgt := 234) dX1_layMatchings_37 (by decide) (fun h => absurd h (nI_pos (by omega))) (fun _ => ?_)
  refine gl_iload dX1_layMatchings_40 rfl ?_
  refine gl_iload_n dX1_layMatchings_42 rfl ?_
  refine gl_icmp_ne (tgt := 58) dX1_layMatchings_43 (by decide) (fun _ => ?_) (fun h => absurd h (fun z => by have := (nI_eq (by omega) (by omega)).mp z; omega))
  refine gl_aload_n dX1_layMatchings_58 rfl ?_
  refine gl_get (k := 14) dX1_layMatchings_59 rfl (rfl : vwCl[1]? = some (RX1, TX1, 21)) in_X1 (by decide) q1034 rfl ?_
  refine gl_iload dX1_layMatchings_62 rfl ?_
  refine gl_iald (j := q) dX1_layMatchings_64 rfl rfl (by omega) ?_
  refine gl_top (w := .int (nI n)) (by rw [mq_A, hA]) ?_
  refine gl_istore dX1_layMatchings_65 rfl rfl ?_
  refine gl_iload dX1_layMatchings_67 rfl ?_
  refine gl_i2l dX1_layMatchings_69 ?_
  refine gl_lconst (v := 0) dX1_layMatchings_70 (by decide) ?_
  refine gl_iload_n dX1_layMatchings_71 rfl ?_
  refine gl_iconst (v := nI 1) dX1_layMatchings_72 (by decide) ?_
  refine gl_isub dX1_layMatchings_73 ?_
  refine gl_i2l dX1_layMatchings_74 ?_
  refine gl_callS (m_in_i L _ _ 0 (nI n - nI 1) rfl rfl) dX1_layMatchings_75 q1093 q1094 q75 q1095 rfl hX1_in rfl rfl (rmOk (by omega) rfl) ⟨by first | exact Nat.le_refl _ | exact Nat.zero_le _ | decide | (dsimp only [rm]; omega), by first | exact Nat.le_refl _ | exact Nat.zero_le _ | decide | (dsimp only [rm]; omega)⟩ (rt1 ?_)
  have hno : inR (nI n) 0 (nI n - nI 1) = false := by
    by_cases z : inR (nI n) 0 (nI n - nI 1) = true
    · obtain ⟨k, hk, e⟩ := inR_n (by omega) z
      have := (nI_eq (by omega) (by omega)).mp e
      omega
    · simpa using z
  refine gl_if_eq (tgt := 115) dX1_layMatchings_78 (by decide) (fun _ => ?_) (fun h => absurd (by rw [hno]; rfl) h)
  refine gl_iload dX1_layMatchings_115 rfl ?_
  refine gl_iconst (v := nI 1) dX1_layMatchings_117 (by decide) ?_
  refine gl_iadd dX1_layMatchings_118 ?_
  refine gl_top (w := .int (nI (n + 1))) (by rw [nI_add]) ?_
  refine gl_istore dX1_layMatchings_119 rfl rfl ?_
  refine gl_iload dX1_layMatchings_121 rfl ?_
  refine gl_iload_n dX1_layMatchings_123 rfl ?_
  refine gl_icmp_ge (tgt := 155) dX1_layMatchings_124 (by decide) (fun _ => ?_) (fun h => absurd (nI_le (by omega) (by omega)) h)
  refine gl_aload_n dX1_layMatchings_155 rfl ?_
  refine gl_get (k := 14) dX1_layMatchings_156 rfl (rfl : vwCl[1]? = some (RX1, TX1, 21)) in_X1 (by decide) q1034 rfl ?_
  refine gl_iload dX1_layMatchings_159 rfl ?_
  refine gl_iload dX1_layMatchings_161 rfl ?_
  refine gl_iast (j := q) dX1_layMatchings_163 rfl rfl (by omega) ?_
  refine gl_mem (mq_28 o y A _ u) ?_
  rw [mq_A]
  refine gl_iload dX1_layMatchings_164 rfl ?_
  refine gl_iload_n dX1_layMatchings_166 rfl ?_
  refine gl_icmp_le (tgt := 176) dX1_layMatchings_167 (by decide) (fun h => absurd h (nI_ge (by omega) (by omega))) (fun _ => ?_)
  refine gl_iinc dX1_layMatchings_170 rfl rfl rfl rfl ?_
  refine gl_goto (tgt := 35) dX1_layMatchings_173 (by decide) ?_
  refine gl_drop 7 (gl_drop 8 ?_)
  exact k
theorem m_fresh (hL : Lb (y.2.2 23) n m t) (b : Bool) (K : Option Value → Mem → Prop) (q : Nat) (hq : q < m) (used : Nat → Bool) (sum : Int32) (u : QS) (A : Nat → Int32) (hA : A q = -1) (k : GL gX1_layMatchings (rm (L + 14) 0 0) K 0 0 121 (lcT n m b (nI q) (orI used n) sum (nI 0)) [] (mM o (mqS y A u))) : GL gX1_layMatchings (rm (L + 14) 0 0) K 0 0 35 (lcM n m b (nI q) (orI used n) sum) [] (mM o (mqS y A u)) := by
  have h7 := hL.c7
  have h7q := hL.q7
  refine gl_iload dX1_layMatchings_35 rfl ?_
  refine gl_if_lt (tgt := 234) dX1_layMatchings_37 (by decide) (fun h => absurd h (nI_pos (by omega))) (fun _ => ?_)
  refine gl_iload dX1_layMatchings_40 rfl ?_
  refine gl_iload_n dX1_layMatchings_42 rfl ?_
  refine gl_icmp_ne (tgt := 58) dX1_layMatchings_43 (by decide) (fun _ => ?_) (fun h => absurd h (fun z => by have := (nI_eq (by omega) (by omega)).mp z; omega))
  refine gl_aload_n dX1_layMatchings_58 rfl ?_
  refine gl_get (k := 14) dX1_layMatchings_59 rfl (rfl : vwCl[1]? = some (RX1, TX1, 21)) in_X1 (by decide) q1034 rfl ?_
  refine gl_iload dX1_layMatchings_62 rfl ?_
  refine gl_iald (j := q) dX1_layMatchings_64 rfl rfl (by omega) ?_
  refine gl_top (w := .int (-1)) (by rw [mq_A, hA]) ?_
  refine gl_istore dX1_layMatchings_65 rfl rfl ?_
  refine gl_iload dX1_layMatchings_67 rfl ?_
  refine gl_i2l dX1_layMatchings_69 ?_
  refine gl_lconst (v := 0) dX1_layMatchings_70 (by decide) ?_
  refine gl_iload_n dX1_layMatchings_71 rfl ?_
  refine gl_iconst (v := nI 1) dX1_layMatchings_72 (by decide) ?_
  refine gl_isub dX1_layMatchings_73 ?_
  refine gl_i2l dX1_layMatchings_74 ?_
  refine gl_callS (m_in_i L _ _ 0 (nI n - nI 1) rfl rfl) dX1_layMatchings_75 q1093 q1094 q75 q1095 rfl hX1_in rfl rfl (rmOk (by omega) rfl) ⟨by first | exact Nat.le_refl _ | exact Nat.zero_le _ | decide | (dsimp only [rm]; omega), by first | exact Nat.le_refl _ | exact Nat.zero_le _ | decide | (dsimp only [rm]; omega)⟩ (rt1 ?_)
  refine gl_if_eq (tgt := 115) dX1_layMatchings_78 (by decide) (fun _ => ?_) (fun h => absurd (by simp [inR, bI, nI]) h)
  refine gl_iload dX1_layMatchings_115 rfl ?_
  refine gl_iconst (v := nI 1) dX1_layMatchings_117 (by decide) ?_
  refine gl_iadd dX1_layMatchings_118 ?_
  refine gl_istore dX1_layMatchings_119 rfl rfl ?_
  refine gl_drop 7 ?_
  exact k
end MY2

