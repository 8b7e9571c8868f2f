/-! lots walked: the model -/
set_option maxRecDepth 100000
section MO
variable (L : Nat) (o : OY) (y : MY) {n m t : Nat}
def lcL1 (N seed : Int32) (a tk k : Nat) : List (Option Value) := [some (.ref 18), some (.int N), some (.int seed), some (.long (lN a)), none, some (.int (nI tk)), some (.int (nI k)), none, none, none, none]
/-- one lot drawn -/
theorem m_lot1 (hL : Lb (y.2.2 23) n m t) (hm : 0 < m) (ht : t < 40) (K : Option Value → Mem → Prop) (N seed : Int32) (a tk k : Nat) (ha : a < 2147483647) (kk : GL gX1_lots (rm (L + 14) 0 0) K 0 0 63 (lcL1 N seed (ltX a) (if 0 < cN (avB (y.2.2 23) m (ltX a % m)) n then tk + 1 else tk) (k + 1)) [] (mM o (if 0 < cN (avB (y.2.2 23) m (ltX a % m)) n then sA y 23 (tkS (y.2.2 23) t (ltX a % m) (ltC (y.2.2 23) n m (ltX a % m) (ltX a))) else y))) : GL gX1_lots (rm (L + 14) 0 0) K 0 0 69 (lcL1 N seed a tk k) [] (mM o y) := by
  have h7 := hL.c7
  have h7q := hL.q7
  have hx : ltX a < 2147483647 := Nat.mod_lt _ (by omega)
  have hq : ltX a % m < m := Nat.mod_lt _ hm
  refine gl_ldc2 (v := 48271) q1395 dX1_lots_69 ?_
  refine gl_lload_n dX1_lots_72 rfl ?_
  refine gl_lmul dX1_lots_73 ?_
  refine gl_ldc2 (v := 2147483647) q1396 dX1_lots_74 ?_
  refine gl_lrem dX1_lots_77 (by decide) ?_
  refine gl_top (w := .long (lN (ltX a))) (by
    rw [show (48271 : Int64) = lN 48271 from rfl, show (2147483647 : Int64) = lN 2147483647 from rfl, lN_mul, lN_rem (by omega) (by omega) (by omega)]
    rfl) ?_
  refine gl_lstore_n dX1_lots_78 rfl rfl ?_
  refine gl_lload_n dX1_lots_79 rfl ?_
  refine gl_aload_n dX1_lots_80 rfl ?_
  refine gl_get (k := 4) dX1_lots_81 rfl (rfl : vwCl[1]? = some (RX1, TX1, 21)) in_X1 (by decide) q1024 rfl ?_
  refine gl_iconst (v := nI 1) dX1_lots_84 (by decide) ?_
  refine gl_iald (j := 1) dX1_lots_85 rfl rfl (by omega) ?_
  refine gl_i2l dX1_lots_86 ?_
  rw [hL.q, nI_l (by omega)]
  refine gl_lrem dX1_lots_87 (by intro z; have := (lN_eq (a := m) (b := 0) (by omega) (by omega)).mp z; omega) ?_
  refine gl_top (w := .long (lN (ltX a % m))) (by rw [lN_rem (by omega) hm (by omega)]) ?_
  refine gl_l2i dX1_lots_88 ?_
  refine gl_top (w := .int (nI (ltX a % m))) (by rw [lN_i]) ?_
  generalize ltX a % m = q at hq kk ⊢
  generalize ltX a = x at hx kk ⊢
  refine gl_istore dX1_lots_89 rfl rfl ?_
  refine gl_iconst (v := nI 0) dX1_lots_91 (by decide) ?_
  refine gl_istore dX1_lots_92 rfl rfl ?_
  refine gl_iconst (v := nI 0) dX1_lots_94 (by decide) ?_
  refine gl_istore dX1_lots_95 rfl rfl ?_
  refine gl_loop (fun c => [some (.ref 18), some (.int N), some (.int seed), some (.long (lN x)), none, some (.int (nI tk)), some (.int (nI k)), some (.int (nI q)), some (.int (cntI (avB (y.2.2 23) m q) c)), some (.int (nI c)), none]) (fun _ => mM o y) n ?_ ?_
  · intro c hc ih
    refine gl_iload dX1_lots_97 rfl ?_
    refine gl_aload_n dX1_lots_99 rfl ?_
    refine gl_get (k := 4) dX1_lots_100 rfl (rfl : vwCl[1]? = some (RX1, TX1, 21)) in_X1 (by decide) q1024 rfl ?_
    refine gl_iconst (v := nI 0) dX1_lots_103 (by decide) ?_
    refine gl_iald (j := 0) dX1_lots_104 rfl rfl (by omega) ?_
    refine gl_icmp_ge (tgt := 153) dX1_lots_105 (by decide) (fun h => absurd h ((by rw [hL.c]; exact nI_ge hc (by omega)))) (fun _ => ?_)
    refine gl_iload dX1_lots_108 rfl ?_
    refine gl_aload_n dX1_lots_110 rfl ?_
    refine gl_iload dX1_lots_111 rfl ?_
    refine gl_callV (m_isFree L o y (q) (by omega)) dX1_lots_113 q1240 q1242 qs59 q75 q1243 rfl hX1_isFree rfl (rfl : vwCl[1]? = some (RX1, TX1, 21)) rfl rfl (rmOk (by omega) rfl) ⟨by first | exact Nat.le_refl _ | exact Nat.zero_le _ | decide | (dsimp only [rm]; omega), by first | exact Nat.le_refl _ | exact Nat.zero_le _ | decide | (dsimp only [rm]; omega)⟩ (rt1 ?_)
    refine gl_if_eq (tgt := 143) dX1_lots_116 (by decide) (fun h116 => ?_) (fun h116 => ?_)
    · refine gl_iconst (v := nI 0) dX1_lots_143 (by decide) ?_
      refine gl_iadd dX1_lots_144 ?_
      refine gl_istore dX1_lots_145 rfl rfl ?_
      refine gl_iinc (v := (nI (c + 1))) dX1_lots_147 rfl (nI_1 _) rfl rfl ?_
      refine gl_goto (tgt := 97) dX1_lots_150 (by decide) ?_
      refine gl_lcs ?_ ih; clear ih kk; (try simp only [bI_ne] at *); simp_all [cntI, avB, fcB, bI] <;> rfl
    · refine gl_aload_n dX1_lots_119 rfl ?_
      refine gl_iload dX1_lots_120 rfl ?_
      refine gl_callV (m_isFreeCard L o y hL (c)) dX1_lots_122 q1244 q1246 qs60 q75 q1247 rfl hX1_isFreeCard rfl (rfl : vwCl[1]? = some (RX1, TX1, 21)) rfl rfl (rmOk (by omega) rfl) ⟨by first | exact Nat.le_refl _ | exact Nat.zero_le _ | decide | (dsimp only [rm]; omega), by first | exact Nat.le_refl _ | exact Nat.zero_le _ | decide | (dsimp only [rm]; omega)⟩ (rt1 ?_)
      refine gl_if_eq (tgt := 143) dX1_lots_125 (by decide) (fun h125 => ?_) (fun h125 => ?_)
      · refine gl_iconst (v := nI 0) dX1_lots_143 (by decide) ?_
        refine gl_iadd dX1_lots_144 ?_
        refine gl_istore dX1_lots_145 rfl rfl ?_
        refine gl_iinc (v := (nI (c + 1))) dX1_lots_147 rfl (nI_1 _) rfl rfl ?_
        refine gl_goto (tgt := 97) dX1_lots_150 (by decide) ?_
        refine gl_lcs ?_ ih; clear ih kk; (try simp only [bI_ne] at *); simp_all [cntI, avB, fcB, bI] <;> rfl
      · refine gl_aload_n dX1_lots_128 rfl ?_
        refine gl_iload dX1_lots_129 rfl ?_
        refine gl_iload dX1_lots_131 rfl ?_
        refine gl_callV (m_isFit L o y hL (q) (c) (by omega) (by omega)) dX1_lots_133 q1207 q1209 qs56 q75 q1210 rfl hX1_isFit rfl (rfl : vwCl[1]? = some (RX1, TX1, 21)) rfl rfl (rmOk (by omega) rfl) ⟨by first | exact Nat.le_refl _ | exact Nat.zero_le _ | decide | (dsimp only [rm]; omega), by first | exact Nat.le_refl _ | exact Nat.zero_le _ | decide | (dsimp only [rm]; omega)⟩ (rt1 ?_)
        refine gl_if_eq (tgt := 143) dX1_lots_136 (by decide) (fun h136 => ?_) (fun h136 => ?_)
        · refine gl_iconst (v := nI 0) dX1_lots_143 (by decide) ?_
          refine gl_iadd dX1_lots_144 ?_
          refine gl_istore dX1_lots_145 rfl rfl ?_
          refine gl_iinc (v := (nI (c + 1))) dX1_lots_147 rfl (nI_1 _) rfl rfl ?_
          refine gl_goto (tgt := 97) dX1_lots_150 (by decide) ?_
          refine gl_lcs ?_ ih; clear ih kk; (try simp only [bI_ne] at *); simp_all [cntI, avB, fcB, bI] <;> rfl
        · refine gl_iconst (v := nI 1) dX1_lots_139 (by decide) ?_
          refine gl_goto (tgt := 144) dX1_lots_140 (by decide) ?_
          refine gl_iadd dX1_lots_144 ?_
          refine gl_istore dX1_lots_145 rfl rfl ?_
          refine gl_iinc (v := (nI (c + 1))) dX1_lots_147 rfl (nI_1 _) rfl rfl ?_
          refine gl_goto (tgt := 97) dX1_lots_150 (by decide) ?_
          refine gl_lcs ?_ ih; clear ih kk; (try simp only [bI_ne] at *); simp_all [cntI, avB, fcB, bI] <;> rfl
  · refine gl_iload dX1_lots_97 rfl ?_
    refine gl_aload_n dX1_lots_99 rfl ?_
    refine gl_get (k := 4) dX1_lots_100 rfl (rfl : vwCl[1]? = some (RX1, TX1, 21)) in_X1 (by decide) q1024 rfl ?_
    refine gl_iconst (v := nI 0) dX1_lots_103 (by decide) ?_
    refine gl_iald (j := 0) dX1_lots_104 rfl rfl (by omega) ?_
    refine gl_icmp_ge (tgt := 153) dX1_lots_105 (by decide) (fun _ => ?_) (fun h => absurd ((by rw [hL.c]; exact nI_le (Nat.le_refl _) (by omega))) h)
    refine gl_iload dX1_lots_153 rfl ?_
    rw [cntI_nI]
    have hcl := cN_le (avB (y.2.2 23) m q) n
    refine gl_if_le (tgt := 245) dX1_lots_155 (by decide) (fun h155 => ?_) (fun h155 => ?_)
    · have z : ¬ 0 < cN (avB (y.2.2 23) m q) n := by
        have := (nI_leI (b := 0) (by omega) (by omega)).mp h155
        omega
      rw [if_neg z, if_neg z] at kk
      refine gl_iinc (v := (nI (k + 1))) dX1_lots_245 rfl (nI_1 _) rfl rfl ?_
      refine gl_goto (tgt := 63) dX1_lots_248 (by decide) ?_
      refine gl_drop 7 (gl_drop 8 (gl_drop 9 ?_))
      exact kk
    · have z : 0 < cN (avB (y.2.2 23) m q) n := by
        have := mt (nI_leI (b := 0) (by omega) (by omega)).mpr h155
        omega
      rw [if_pos z, if_pos z] at kk
      obtain ⟨e1, e2⟩ := av_fc z
      have hl : x / 64 % cN (avB (y.2.2 23) m q) n < cN (fcB (y.2.2 23) m q) n := by rw [← e2]; exact Nat.mod_lt _ z
      unfold ltC at kk
      refine gl_lload_n dX1_lots_158 rfl ?_
      refine gl_ldc2 (v := 64) q1397 dX1_lots_159 ?_
      refine gl_ldiv dX1_lots_162 (by decide) ?_
      refine gl_top (w := .long (lN (x / 64))) (by rw [show (64 : Int64) = lN 64 from rfl, pk_lDiv (by omega) (by omega) (by omega)]) ?_
      refine gl_iload dX1_lots_163 rfl ?_
      refine gl_i2l dX1_lots_165 ?_
      rw [nI_l (by omega)]
      refine gl_lrem dX1_lots_166 (by intro z0; have := (lN_eq (a := cN (avB (y.2.2 23) m q) n) (b := 0) (by omega) (by omega)).mp z0; omega) ?_
      have hxd : x / 64 ≤ x := Nat.div_le_self _ _
      refine gl_top (w := .long (lN (x / 64 % cN (avB (y.2.2 23) m q) n))) (by rw [lN_rem (by omega) z (by omega)]) ?_
      refine gl_l2i dX1_lots_167 ?_
      refine gl_top (w := .int (nI (x / 64 % cN (avB (y.2.2 23) m q) n))) (by rw [lN_i]) ?_
      generalize x / 64 % cN (avB (y.2.2 23) m q) n = l at hl kk ⊢
      refine gl_istore dX1_lots_168 rfl rfl ?_
      refine gl_iconst (v := nI 0) dX1_lots_170 (by decide) ?_
      refine gl_istore dX1_lots_171 rfl rfl ?_
      refine gl_drop 8 ?_
      have fin : ∀ c, c < 7 → GL gX1_lots (rm (L + 14) 0 0) K 0 0 63 (lcL1 N seed x (tk + 1) (k + 1)) [] (mM o (sA y 23 (tkS (y.2.2 23) t q c))) → ∀ l, GL gX1_lots (rm (L + 14) 0 0) K 0 0 234 [some (.ref 18), some (.int N), some (.int seed), some (.long (lN x)), none, some (.int (nI tk)), some (.int (nI k)), some (.int (nI q)), none, some (.int (nI l)), some (.int (nI c))] [] (mM o y) := by
        intro c hc k1 l
        refine gl_aload_n dX1_lots_234 rfl ?_
        refine gl_iload dX1_lots_235 rfl ?_
        refine gl_iload dX1_lots_237 rfl ?_
        refine gl_callV (m_takesIt L o y hL.tk ht q c (by omega) hc) dX1_lots_239 q1248 q1250 qs61 q75 q1251 rfl hX1_takesIt rfl (rfl : vwCl[1]? = some (RX1, TX1, 21)) rfl rfl (rmOk (by omega) rfl) ⟨by first | exact Nat.le_refl _ | exact Nat.zero_le _ | decide | (dsimp only [rm]; omega), by first | exact Nat.le_refl _ | exact Nat.zero_le _ | decide | (dsimp only [rm]; omega)⟩ (rt1 ?_)
        refine gl_iinc (v := (nI (tk + 1))) dX1_lots_242 rfl (nI_1 _) rfl rfl ?_
        refine gl_iinc (v := (nI (k + 1))) dX1_lots_245 rfl (nI_1 _) rfl rfl ?_
        refine gl_goto (tgt := 63) dX1_lots_248 (by decide) ?_
        refine gl_drop 7 (gl_drop 9 (gl_drop 10 ?_))
        exact k1
      have key : ∀ (f l c : Nat), c + f = n → cN (fcB (y.2.2 23) m q) c + l < cN (fcB (y.2.2 23) m q) n → GL gX1_lots (rm (L + 14) 0 0) K 0 0 63 (lcL1 N seed x (tk + 1) (k + 1)) [] (mM o (sA y 23 (tkS (y.2.2 23) t q (pickF (fcB (y.2.2 23) m q) f l c)))) → GL gX1_lots (rm (L + 14) 0 0) K 0 0 173 [some (.ref 18), some (.int N), some (.int seed), some (.long (lN x)), none, some (.int (nI tk)), some (.int (nI k)), some (.int (nI q)), none, some (.int (nI l)), some (.int (nI c))] [] (mM o y) := by
        intro f
        induction f with
        | zero =>
          intro l c h1 h2
          have : c = n := by omega
          rw [this] at h2
          omega
        | succ f ih =>
          intro l c h1 h2 k1
          have hln := cN_le (fcB (y.2.2 23) m q) n
          unfold pickF at k1
          have t198 : ¬ (l = 0 ∧ fcB (y.2.2 23) m q c = true) → GL gX1_lots (rm (L + 14) 0 0) K 0 0 198 [some (.ref 18), some (.int N), some (.int seed), some (.long (lN x)), none, some (.int (nI tk)), some (.int (nI k)), some (.int (nI q)), none, some (.int (nI l)), some (.int (nI c))] [] (mM o y) := by
            intro hno
            rw [if_neg hno] at k1
            have gf : ∀ b : Bool, b = fcB (y.2.2 23) m q c → GL gX1_lots (rm (L + 14) 0 0) K 0 0 225 [some (.ref 18), some (.int N), some (.int seed), some (.long (lN x)), none, some (.int (nI tk)), some (.int (nI k)), some (.int (nI q)), none, some (.int (nI l)), some (.int (nI c))] [.int (bI b), .int (nI l)] (mM o y) := by
              intro b hb
              rw [← hb] at k1
              refine gl_isub dX1_lots_225 ?_
              refine gl_top (w := .int (nI (if b then l - 1 else l))) (by
                cases b with
                | true =>
                  have : ¬ l = 0 := fun z => hno ⟨z, hb.symm⟩
                  show Value.int (nI l - nI 1) = _
                  rw [nI_sub (by omega)]
                  rfl
                | false =>
                  show Value.int (nI l - nI 0) = _
                  rw [nI_sub (by omega)]
                  rfl) ?_
              refine gl_istore dX1_lots_226 rfl rfl ?_
              refine gl_iinc (v := (nI (c + 1))) dX1_lots_228 rfl (nI_1 _) rfl rfl ?_
              refine gl_goto (tgt := 173) dX1_lots_231 (by decide) ?_
              refine ih _ _ (by omega) ?_ k1
              rw [show cN (fcB (y.2.2 23) m q) (c + 1) = cN (fcB (y.2.2 23) m q) c + (fcB (y.2.2 23) m q c).toNat from rfl, ← hb]
              cases b with
              | true =>
                have : ¬ l = 0 := fun z => hno ⟨z, hb.symm⟩
                simp only [Bool.toNat_true, if_true]
                omega
              | false =>
                simp only [Bool.toNat_false]
                show _ + l < _
                omega
            refine gl_iload dX1_lots_198 rfl ?_
            refine gl_aload_n dX1_lots_200 rfl ?_
            refine gl_iload dX1_lots_201 rfl ?_
            refine gl_callV (m_isFreeCard L o y hL (c)) dX1_lots_203 q1244 q1246 qs60 q75 q1247 rfl hX1_isFreeCard rfl (rfl : vwCl[1]? = some (RX1, TX1, 21)) rfl rfl (rmOk (by omega) rfl) ⟨by first | exact Nat.le_refl _ | exact Nat.zero_le _ | decide | (dsimp only [rm]; omega), by first | exact Nat.le_refl _ | exact Nat.zero_le _ | decide | (dsimp only [rm]; omega)⟩ (rt1 ?_)
            refine gl_if_eq (tgt := 224) dX1_lots_206 (by decide) (fun h206 => ?_) (fun h206 => ?_)
            · refine gl_iconst (v := nI 0) dX1_lots_224 (by decide) ?_
              exact gf false (by unfold fcB; rw [bI_fa h206]; rfl)
            · refine gl_aload_n dX1_lots_209 rfl ?_
              refine gl_iload dX1_lots_210 rfl ?_
              refine gl_iload dX1_lots_212 rfl ?_
              refine gl_callV (m_isFit L o y hL (q) (c) (by omega) (by omega)) dX1_lots_214 q1207 q1209 qs56 q75 q1210 rfl hX1_isFit rfl (rfl : vwCl[1]? = some (RX1, TX1, 21)) rfl rfl (rmOk (by omega) rfl) ⟨by first | exact Nat.le_refl _ | exact Nat.zero_le _ | decide | (dsimp only [rm]; omega), by first | exact Nat.le_refl _ | exact Nat.zero_le _ | decide | (dsimp only [rm]; omega)⟩ (rt1 ?_)
              refine gl_if_eq (tgt := 224) dX1_lots_217 (by decide) (fun h217 => ?_) (fun h217 => ?_)
              · refine gl_iconst (v := nI 0) dX1_lots_224 (by decide) ?_
                exact gf false (by unfold fcB; rw [bI_fa h217, Bool.and_false])
              · refine gl_iconst (v := nI 1) dX1_lots_220 (by decide) ?_
                refine gl_goto (tgt := 225) dX1_lots_221 (by decide) ?_
                exact gf true (by unfold fcB; rw [bI_tr h206, bI_tr h217]; rfl)
          refine gl_iload dX1_lots_173 rfl ?_
          refine gl_if_gt (tgt := 198) dX1_lots_175 (by decide) (fun h175 => ?_) (fun h175 => ?_)
          · exact t198 (fun z => by have := (nI_ltI (a := 0) (by omega) (by omega)).mp h175; omega)
          · have hl0 : l = 0 := by
              have := mt (nI_ltI (a := 0) (b := l) (by omega) (by omega)).mpr h175
              omega
            refine gl_aload_n dX1_lots_178 rfl ?_
            refine gl_iload dX1_lots_179 rfl ?_
            refine gl_callV (m_isFreeCard L o y hL (c)) dX1_lots_181 q1244 q1246 qs60 q75 q1247 rfl hX1_isFreeCard rfl (rfl : vwCl[1]? = some (RX1, TX1, 21)) rfl rfl (rmOk (by omega) rfl) ⟨by first | exact Nat.le_refl _ | exact Nat.zero_le _ | decide | (dsimp only [rm]; omega), by first | exact Nat.le_refl _ | exact Nat.zero_le _ | decide | (dsimp only [rm]; omega)⟩ (rt1 ?_)
            refine gl_if_eq (tgt := 198) dX1_lots_184 (by decide) (fun h184 => ?_) (fun h184 => ?_)
            · exact t198 (fun z => by have := z.2; unfold fcB at this; rw [bI_fa h184] at this; cases this)
            · refine gl_aload_n dX1_lots_187 rfl ?_
              refine gl_iload dX1_lots_188 rfl ?_
              refine gl_iload dX1_lots_190 rfl ?_
              refine gl_callV (m_isFit L o y hL (q) (c) (by omega) (by omega)) dX1_lots_192 q1207 q1209 qs56 q75 q1210 rfl hX1_isFit rfl (rfl : vwCl[1]? = some (RX1, TX1, 21)) rfl rfl (rmOk (by omega) rfl) ⟨by first | exact Nat.le_refl _ | exact Nat.zero_le _ | decide | (dsimp only [rm]; omega), by first | exact Nat.le_refl _ | exact Nat.zero_le _ | decide | (dsimp only [rm]; omega)⟩ (rt1 ?_)
              refine gl_if_ne (tgt := 234) dX1_lots_195 (by decide) (fun h195 => ?_) (fun h195 => ?_)
              · rw [if_pos ⟨hl0, by unfold fcB; rw [bI_tr h184, bI_tr h195]; rfl⟩] at k1
                exact fin c (by omega) k1 l
              · exact t198 (fun z => by have := z.2; unfold fcB at this; rw [bI_fa h195, Bool.and_false] at this; cases this)
      exact key n l 0 (by omega) (by rw [show cN (fcB (y.2.2 23) m q) 0 = 0 from rfl, Nat.zero_add]; exact hl) kk
theorem m_lots (hL : Lb (y.2.2 23) n m t) (N seed : Int32) : Ct yX1_lots gX1_lots (L + 14) 0 0 [.ref 18, .int N, .int seed] (mM o y) (RtP o (sp_lots y n m t N seed)) := by
  refine Ct.of rfl rfl rfl rfl rfl ?_
  have h7 := hL.c7
  have h7q := hL.q7
  have h40 := hL.t40
  refine gl_iload_n dX1_lots_0 rfl ?_
  refine gl_i2l dX1_lots_1 ?_
  refine gl_lconst (v := 1) dX1_lots_2 (by decide) ?_
  refine gl_ldc2 (v := 20) q1393 dX1_lots_3 ?_
  refine gl_callS (m_in_i L (mM o y) N 1 20 rfl rfl) dX1_lots_6 q1093 q1094 q75 q1095 rfl hX1_in rfl rfl (rmOk (by omega) rfl) ⟨by first | exact Nat.le_refl _ | exact Nat.zero_le _ | decide | (dsimp only [rm]; omega), by first | exact Nat.le_refl _ | exact Nat.zero_le _ | decide | (dsimp only [rm]; omega)⟩ (rt1 ?_)
  refine gl_if_eq (tgt := 24) dX1_lots_9 (by decide) (fun h9 => ?_) (fun h9 => ?_)
  · unfold sp_lots
    rw [if_neg (by simp [bI_fa h9])]
    refine gl_iconst (v := (-1)) dX1_lots_24 (by decide) ?_
    exact gl_iret dX1_lots_25 rfl ⟨rfl, rfl⟩
  · have hN := bI_tr h9
    refine gl_iload_n dX1_lots_12 rfl ?_
    refine gl_i2l dX1_lots_13 ?_
    refine gl_lconst (v := 1) dX1_lots_14 (by decide) ?_
    refine gl_ldc2 (v := 2147483646) q1394 dX1_lots_15 ?_
    refine gl_callS (m_in_i L (mM o y) seed 1 2147483646 rfl rfl) dX1_lots_18 q1093 q1094 q75 q1095 rfl hX1_in rfl rfl (rmOk (by omega) rfl) ⟨by first | exact Nat.le_refl _ | exact Nat.zero_le _ | decide | (dsimp only [rm]; omega), by first | exact Nat.le_refl _ | exact Nat.zero_le _ | decide | (dsimp only [rm]; omega)⟩ (rt1 ?_)
    refine gl_if_ne (tgt := 26) dX1_lots_21 (by decide) (fun h21 => ?_) (fun h21 => ?_)
    · have hs := bI_tr h21
      unfold sp_lots
      rw [if_pos (by rw [hN, hs]; rfl)]
      obtain ⟨N, hN1, hN2, rfl⟩ := inR_nat (a := 1) (b := 20) (by omega) (by omega) hN
      obtain ⟨a, ha1, ha2, rfl⟩ := inR_nat (a := 1) (b := 2147483646) (by omega) (by omega) hs
      rw [ix_nI (show N < 100 by omega), show ix (nI a) = a from nI_clamp (by omega)]
      refine gl_aload_n dX1_lots_26 rfl ?_
      refine gl_get (k := 4) dX1_lots_27 rfl (rfl : vwCl[1]? = some (RX1, TX1, 21)) in_X1 (by decide) q1024 rfl ?_
      refine gl_iconst (v := nI 1) dX1_lots_30 (by decide) ?_
      refine gl_iald (j := 1) dX1_lots_31 rfl rfl (by omega) ?_
      rw [hL.q]
      refine gl_if_ne (tgt := 38) dX1_lots_32 (by decide) (fun h32 => ?_) (fun h32 => ?_)
      · have hm : ¬ m = 0 := fun z => h32 (by rw [z]; rfl)
        rw [if_neg hm]
        refine gl_aload_n dX1_lots_38 rfl ?_
        refine gl_get (k := 4) dX1_lots_39 rfl (rfl : vwCl[1]? = some (RX1, TX1, 21)) in_X1 (by decide) q1024 rfl ?_
        refine gl_iconst (v := nI 2) dX1_lots_42 (by decide) ?_
        refine gl_iald (j := 2) dX1_lots_43 rfl rfl (by omega) ?_
        refine gl_iload_n dX1_lots_44 rfl ?_
        refine gl_iadd dX1_lots_45 ?_
        refine gl_bipush (v := nI 40) dX1_lots_46 (by decide) ?_
        rw [hL.tk, nI_add]
        refine gl_icmp_le (tgt := 54) dX1_lots_48 (by decide) (fun h48 => ?_) (fun h48 => ?_)
        · have hle := (nI_leI (by omega) (by omega)).mp h48
          rw [if_neg (show ¬ 40 < t + N by omega)]
          refine gl_iload_n dX1_lots_54 rfl ?_
          refine gl_i2l dX1_lots_55 ?_
          rw [nI_l (by omega)]
          refine gl_lstore_n dX1_lots_56 rfl rfl ?_
          refine gl_iconst (v := nI 0) dX1_lots_57 (by decide) ?_
          refine gl_istore dX1_lots_58 rfl rfl ?_
          refine gl_iconst (v := nI 0) dX1_lots_60 (by decide) ?_
          refine gl_istore dX1_lots_61 rfl rfl ?_
          refine gl_loop (fun k => lcL1 (nI N) (nI a) (ltS n m t (y.2.2 23) a k).2.1 (ltS n m t (y.2.2 23) a k).2.2 k) (fun k => mM o (sA y 23 (ltS n m t (y.2.2 23) a k).1)) N ?_ ?_
          · intro k hk ih
            obtain ⟨u1, u2, u3⟩ := lt_ok (k := k) hL (show 0 < m by omega) (show a < 2147483647 by omega) (by omega)
            rw [show ltS n m t (y.2.2 23) a (k + 1) = ltStep n m t (ltS n m t (y.2.2 23) a k) from rfl] at ih
            generalize ltS n m t (y.2.2 23) a k = u at u1 u2 u3 ih ⊢
            refine gl_iload dX1_lots_63 rfl ?_
            refine gl_iload_n dX1_lots_65 rfl ?_
            refine gl_icmp_ge (tgt := 251) dX1_lots_66 (by decide) (fun h => absurd h (nI_ge hk (by omega))) (fun _ => ?_)
            refine m_lot1 L o (sA y 23 u.1) u3 (by omega) (by omega) _ _ _ _ _ _ u2 ?_
            unfold ltStep at ih
            by_cases z : 0 < cN (avB u.1 m (ltX u.2.1 % m)) n
            · rw [if_pos z] at ih
              rw [if_pos (show 0 < cN (avB ((sA y 23 u.1).2.2 23) m (ltX u.2.1 % m)) n from z), if_pos (show 0 < cN (avB ((sA y 23 u.1).2.2 23) m (ltX u.2.1 % m)) n from z)]
              exact ih
            · rw [if_neg z] at ih
              rw [if_neg (show ¬ 0 < cN (avB ((sA y 23 u.1).2.2 23) m (ltX u.2.1 % m)) n from z), if_neg (show ¬ 0 < cN (avB ((sA y 23 u.1).2.2 23) m (ltX u.2.1 % m)) n from z)]
              exact ih
          · generalize ltS n m t (y.2.2 23) a N = u
            refine gl_iload dX1_lots_63 rfl ?_
            refine gl_iload_n dX1_lots_65 rfl ?_
            refine gl_icmp_ge (tgt := 251) dX1_lots_66 (by decide) (fun _ => ?_) (fun h => absurd (nI_le (Nat.le_refl _) (by omega)) h)
            refine gl_iload dX1_lots_251 rfl ?_
            exact gl_iret dX1_lots_253 rfl ⟨rfl, rfl⟩
        · have hle := mt (nI_leI (by omega) (by omega)).mpr h48
          rw [if_pos (show 40 < t + N by omega)]
          refine gl_bipush (v := (-2)) dX1_lots_51 (by decide) ?_
          exact gl_iret dX1_lots_53 rfl ⟨rfl, rfl⟩
      · have hm : m = 0 := (nI_eq (by omega) (by omega)).mp h32
        rw [if_pos hm]
        refine gl_bipush (v := (-4)) dX1_lots_35 (by decide) ?_
        exact gl_iret dX1_lots_37 rfl ⟨rfl, rfl⟩
    · unfold sp_lots
      rw [if_neg (by simp [bI_fa h21])]
      refine gl_iconst (v := (-1)) dX1_lots_24 (by decide) ?_
      exact gl_iret dX1_lots_25 rfl ⟨rfl, rfl⟩
end MO

