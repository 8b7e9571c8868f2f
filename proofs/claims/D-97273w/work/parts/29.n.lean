/-! the model: counts, digest -/
set_option maxRecDepth 100000
def cntF (a : Int32) (p : Nat → Bool) : Nat → Int32
  | 0 => a
  | k + 1 => cntF a p k + bI (p k)
def cg1 (w : Nat → Int32) (n m wh : Nat) : Int32 := cntI (fun c => (wh == 3 && frC w m c) || (wh == 5 && isOf (w (3 + c)) 2)) n
def cg2 (w : Nat → Int32) (m wh : Nat) (a : Int32) : Int32 := if wh = 4 then cntF a (frQ w) m else a
def cg3 (f : Nat → Int32) (wh : Nat) (a : Int32) : Int32 := if wh = 6 then cntF a (fun k => !decide (f k < 0)) 6 else a
def cg4 (f : Nat → Int32) (wh : Nat) (a : Int32) : Int32 := if wh = 7 then cntF a (fun k => !decide (f k < 0)) 4 else a
def cg5 (f : Nat → Int32) (wh : Nat) (a : Int32) : Int32 := if wh = 8 then cntF a (fun k => !(f k == 0)) 3 else a
def ctI (y : MY) (n m wh : Nat) : Int32 := if wh < 3 then y.2.2 23 wh else cg5 (y.2.2 25) wh (cg4 (y.2.2 21) wh (cg3 (y.2.2 19) wh (cg2 (y.2.2 23) m wh (cg1 (y.2.2 23) n m wh))))
section MN
variable (L : Nat) (o : OY) (y : MY) {n m t : Nat}
theorem m_counted (hL : Lb (y.2.2 23) n m t) (wh : Nat) (hwh : wh < 9) : Ct yX1_counted gX1_counted (L + 13) 0 0 [.ref 18, .int (nI wh)] (mM o y) (Rt (some (.int (ctI y n m wh))) (mM o y)) := by
  refine Ct.of rfl rfl rfl rfl rfl ?_
  have h7 := hL.c7
  have h7q := hL.q7
  have nq : ∀ k : Nat, k < 100 → (nI wh = nI k ↔ wh = k) := fun k hk => nI_eq (by omega) (by omega)
  generalize hR : ctI y n m wh = R
  have s5 : ∀ a, R = (if wh < 3 then y.2.2 23 wh else a) → GL gX1_counted (rm (L + 13) 0 0) (Rt (some (.int R)) (mM o y)) 0 0 209 [some (.ref 18), some (.int (nI wh)), some (.int a), none] [] (mM o y) := by
    intro a ha
    refine gl_iload_n dX1_counted_209 rfl ?_
    refine gl_iconst (v := nI 3) dX1_counted_210 (by decide) ?_
    refine gl_icmp_ge (tgt := 223) dX1_counted_211 (by decide) (fun h211 => ?_) (fun h211 => ?_)
    · rw [if_neg (by have := (nI_leI (by omega) (by omega)).mp h211; omega)] at ha
      refine gl_iload_n dX1_counted_223 rfl ?_
      exact gl_iret dX1_counted_224 rfl ⟨by rw [ha], rfl⟩
    · rw [if_pos (by have := mt (nI_leI (by omega) (by omega)).mpr h211; omega)] at ha
      refine gl_aload_n dX1_counted_214 rfl ?_
      refine gl_get (k := 4) dX1_counted_215 rfl (rfl : vwCl[1]? = some (RX1, TX1, 21)) in_X1 (by decide) q1024 rfl ?_
      refine gl_iload_n dX1_counted_218 rfl ?_
      refine gl_iald (j := wh) dX1_counted_219 rfl rfl (by omega) ?_
      refine gl_goto (tgt := 224) dX1_counted_220 (by decide) ?_
      exact gl_iret dX1_counted_224 rfl ⟨by rw [ha], rfl⟩
  have s4 : ∀ a, R = (if wh < 3 then y.2.2 23 wh else cg5 (y.2.2 25) wh a) → GL gX1_counted (rm (L + 13) 0 0) (Rt (some (.int R)) (mM o y)) 0 0 173 [some (.ref 18), some (.int (nI wh)), some (.int a), none] [] (mM o y) := by
    intro a ha
    unfold cg5 at ha
    refine gl_iconst (v := nI 0) dX1_counted_173 (by decide) ?_
    refine gl_istore_n dX1_counted_174 rfl rfl ?_
    by_cases hw : wh = 8
    · rw [if_pos hw] at ha
      refine gl_loop (fun k => [some (.ref 18), some (.int (nI wh)), some (.int (cntF a (fun k => !(y.2.2 25 k == 0)) k)), some (.int (nI k))]) (fun _ => mM o y) 3 ?_ ?_
      · intro k hk ih
        refine gl_iload_n dX1_counted_175 rfl ?_
        refine gl_iconst (v := nI 3) dX1_counted_176 (by decide) ?_
        refine gl_icmp_ge (tgt := 209) dX1_counted_177 (by decide) (fun h => absurd h (nI_ge hk (by omega))) (fun _ => ?_)
        refine gl_iload_n dX1_counted_180 rfl ?_
        refine gl_bipush (v := nI 8) dX1_counted_181 (by decide) ?_
        refine gl_icmp_ne (tgt := 209) dX1_counted_183 (by decide) (fun h => absurd (by rw [hw]) h) (fun _ => ?_)
        refine gl_iload_n dX1_counted_186 rfl ?_
        refine gl_aload_n dX1_counted_187 rfl ?_
        refine gl_get (k := 6) dX1_counted_188 rfl (rfl : vwCl[1]? = some (RX1, TX1, 21)) in_X1 (by decide) q1026 rfl ?_
        refine gl_iload_n dX1_counted_191 rfl ?_
        refine gl_zald (j := k) dX1_counted_192 rfl rfl (by omega) ?_
        refine gl_if_eq (tgt := 200) dX1_counted_193 (by decide) (fun h193 => ?_) (fun h193 => ?_)
        · refine gl_iconst (v := nI 0) dX1_counted_200 (by decide) ?_
          refine gl_iadd dX1_counted_201 ?_
          refine gl_istore_n dX1_counted_202 rfl rfl ?_
          refine gl_iinc (v := (nI (k + 1))) dX1_counted_203 rfl (nI_1 _) rfl rfl ?_
          refine gl_goto (tgt := 175) dX1_counted_206 (by decide) ?_
          refine gl_lcs ?_ ih; clear ih s5; simp [cntF, bI, *] <;> rfl
        · refine gl_iconst (v := nI 1) dX1_counted_196 (by decide) ?_
          refine gl_goto (tgt := 201) dX1_counted_197 (by decide) ?_
          refine gl_iadd dX1_counted_201 ?_
          refine gl_istore_n dX1_counted_202 rfl rfl ?_
          refine gl_iinc (v := (nI (k + 1))) dX1_counted_203 rfl (nI_1 _) rfl rfl ?_
          refine gl_goto (tgt := 175) dX1_counted_206 (by decide) ?_
          refine gl_lcs ?_ ih; clear ih s5; simp [cntF, bI, *] <;> rfl
      · refine gl_iload_n dX1_counted_175 rfl ?_
        refine gl_iconst (v := nI 3) dX1_counted_176 (by decide) ?_
        refine gl_icmp_ge (tgt := 209) dX1_counted_177 (by decide) (fun _ => ?_) (fun h => absurd (nI_le (Nat.le_refl _) (by omega)) h)
        refine gl_drop 3 ?_
        exact s5 _ ha
    · rw [if_neg hw] at ha
      refine gl_iload_n dX1_counted_175 rfl ?_
      refine gl_iconst (v := nI 3) dX1_counted_176 (by decide) ?_
      refine gl_icmp_ge (tgt := 209) dX1_counted_177 (by decide) (fun h => absurd h (nI_ge (by omega) (by omega))) (fun _ => ?_)
      refine gl_iload_n dX1_counted_180 rfl ?_
      refine gl_bipush (v := nI 8) dX1_counted_181 (by decide) ?_
      refine gl_icmp_ne (tgt := 209) dX1_counted_183 (by decide) (fun _ => ?_) (fun h => absurd h (fun z => hw ((nq 8 (by omega)).mp z)))
      refine gl_drop 3 ?_
      exact s5 _ ha
  have s3 : ∀ a, R = (if wh < 3 then y.2.2 23 wh else cg5 (y.2.2 25) wh (cg4 (y.2.2 21) wh a)) → GL gX1_counted (rm (L + 13) 0 0) (Rt (some (.int R)) (mM o y)) 0 0 137 [some (.ref 18), some (.int (nI wh)), some (.int a), none] [] (mM o y) := by
    intro a ha
    unfold cg4 at ha
    refine gl_iconst (v := nI 0) dX1_counted_137 (by decide) ?_
    refine gl_istore_n dX1_counted_138 rfl rfl ?_
    by_cases hw : wh = 7
    · rw [if_pos hw] at ha
      refine gl_loop (fun k => [some (.ref 18), some (.int (nI wh)), some (.int (cntF a (fun k => !decide (y.2.2 21 k < 0)) k)), some (.int (nI k))]) (fun _ => mM o y) 4 ?_ ?_
      · intro k hk ih
        refine gl_iload_n dX1_counted_139 rfl ?_
        refine gl_iconst (v := nI 4) dX1_counted_140 (by decide) ?_
        refine gl_icmp_ge (tgt := 173) dX1_counted_141 (by decide) (fun h => absurd h (nI_ge hk (by omega))) (fun _ => ?_)
        refine gl_iload_n dX1_counted_144 rfl ?_
        refine gl_bipush (v := nI 7) dX1_counted_145 (by decide) ?_
        refine gl_icmp_ne (tgt := 173) dX1_counted_147 (by decide) (fun h => absurd (by rw [hw]) h) (fun _ => ?_)
        refine gl_iload_n dX1_counted_150 rfl ?_
        refine gl_aload_n dX1_counted_151 rfl ?_
        refine gl_get (k := 2) dX1_counted_152 rfl (rfl : vwCl[1]? = some (RX1, TX1, 21)) in_X1 (by decide) q1022 rfl ?_
        refine gl_iload_n dX1_counted_155 rfl ?_
        refine gl_iald (j := k) dX1_counted_156 rfl rfl (by omega) ?_
        refine gl_if_ge (tgt := 164) dX1_counted_157 (by decide) (fun h157 => ?_) (fun h157 => ?_)
        · have z := k2_nlt h157
          refine gl_iconst (v := nI 1) dX1_counted_164 (by decide) ?_
          refine gl_iadd dX1_counted_165 ?_
          refine gl_istore_n dX1_counted_166 rfl rfl ?_
          refine gl_iinc (v := (nI (k + 1))) dX1_counted_167 rfl (nI_1 _) rfl rfl ?_
          refine gl_goto (tgt := 139) dX1_counted_170 (by decide) ?_
          refine gl_lcs ?_ ih; clear ih s5 s4; simp [cntF, bI, z] <;> rfl
        · have z := k2_lt h157
          refine gl_iconst (v := nI 0) dX1_counted_160 (by decide) ?_
          refine gl_goto (tgt := 165) dX1_counted_161 (by decide) ?_
          refine gl_iadd dX1_counted_165 ?_
          refine gl_istore_n dX1_counted_166 rfl rfl ?_
          refine gl_iinc (v := (nI (k + 1))) dX1_counted_167 rfl (nI_1 _) rfl rfl ?_
          refine gl_goto (tgt := 139) dX1_counted_170 (by decide) ?_
          refine gl_lcs ?_ ih; clear ih s5 s4; simp [cntF, bI, z] <;> rfl
      · refine gl_iload_n dX1_counted_139 rfl ?_
        refine gl_iconst (v := nI 4) dX1_counted_140 (by decide) ?_
        refine gl_icmp_ge (tgt := 173) dX1_counted_141 (by decide) (fun _ => ?_) (fun h => absurd (nI_le (Nat.le_refl _) (by omega)) h)
        refine gl_drop 3 ?_
        exact s4 _ ha
    · rw [if_neg hw] at ha
      refine gl_iload_n dX1_counted_139 rfl ?_
      refine gl_iconst (v := nI 4) dX1_counted_140 (by decide) ?_
      refine gl_icmp_ge (tgt := 173) dX1_counted_141 (by decide) (fun h => absurd h (nI_ge (by omega) (by omega))) (fun _ => ?_)
      refine gl_iload_n dX1_counted_144 rfl ?_
      refine gl_bipush (v := nI 7) dX1_counted_145 (by decide) ?_
      refine gl_icmp_ne (tgt := 173) dX1_counted_147 (by decide) (fun _ => ?_) (fun h => absurd h (fun z => hw ((nq 7 (by omega)).mp z)))
      refine gl_drop 3 ?_
      exact s4 _ ha
  have s2 : ∀ a, R = (if wh < 3 then y.2.2 23 wh else cg5 (y.2.2 25) wh (cg4 (y.2.2 21) wh (cg3 (y.2.2 19) wh a))) → GL gX1_counted (rm (L + 13) 0 0) (Rt (some (.int R)) (mM o y)) 0 0 100 [some (.ref 18), some (.int (nI wh)), some (.int a), none] [] (mM o y) := by
    intro a ha
    unfold cg3 at ha
    refine gl_iconst (v := nI 0) dX1_counted_100 (by decide) ?_
    refine gl_istore_n dX1_counted_101 rfl rfl ?_
    by_cases hw : wh = 6
    · rw [if_pos hw] at ha
      refine gl_loop (fun k => [some (.ref 18), some (.int (nI wh)), some (.int (cntF a (fun k => !decide (y.2.2 19 k < 0)) k)), some (.int (nI k))]) (fun _ => mM o y) 6 ?_ ?_
      · intro k hk ih
        refine gl_iload_n dX1_counted_102 rfl ?_
        refine gl_bipush (v := nI 6) dX1_counted_103 (by decide) ?_
        refine gl_icmp_ge (tgt := 137) dX1_counted_105 (by decide) (fun h => absurd h (nI_ge hk (by omega))) (fun _ => ?_)
        refine gl_iload_n dX1_counted_108 rfl ?_
        refine gl_bipush (v := nI 6) dX1_counted_109 (by decide) ?_
        refine gl_icmp_ne (tgt := 137) dX1_counted_111 (by decide) (fun h => absurd (by rw [hw]) h) (fun _ => ?_)
        refine gl_iload_n dX1_counted_114 rfl ?_
        refine gl_aload_n dX1_counted_115 rfl ?_
        refine gl_get (k := 0) dX1_counted_116 rfl (rfl : vwCl[1]? = some (RX1, TX1, 21)) in_X1 (by decide) q1020 rfl ?_
        refine gl_iload_n dX1_counted_119 rfl ?_
        refine gl_iald (j := k) dX1_counted_120 rfl rfl (by omega) ?_
        refine gl_if_ge (tgt := 128) dX1_counted_121 (by decide) (fun h121 => ?_) (fun h121 => ?_)
        · have z := k2_nlt h121
          refine gl_iconst (v := nI 1) dX1_counted_128 (by decide) ?_
          refine gl_iadd dX1_counted_129 ?_
          refine gl_istore_n dX1_counted_130 rfl rfl ?_
          refine gl_iinc (v := (nI (k + 1))) dX1_counted_131 rfl (nI_1 _) rfl rfl ?_
          refine gl_goto (tgt := 102) dX1_counted_134 (by decide) ?_
          refine gl_lcs ?_ ih; clear ih s5 s4 s3; simp [cntF, bI, z] <;> rfl
        · have z := k2_lt h121
          refine gl_iconst (v := nI 0) dX1_counted_124 (by decide) ?_
          refine gl_goto (tgt := 129) dX1_counted_125 (by decide) ?_
          refine gl_iadd dX1_counted_129 ?_
          refine gl_istore_n dX1_counted_130 rfl rfl ?_
          refine gl_iinc (v := (nI (k + 1))) dX1_counted_131 rfl (nI_1 _) rfl rfl ?_
          refine gl_goto (tgt := 102) dX1_counted_134 (by decide) ?_
          refine gl_lcs ?_ ih; clear ih s5 s4 s3; simp [cntF, bI, z] <;> rfl
      · refine gl_iload_n dX1_counted_102 rfl ?_
        refine gl_bipush (v := nI 6) dX1_counted_103 (by decide) ?_
        refine gl_icmp_ge (tgt := 137) dX1_counted_105 (by decide) (fun _ => ?_) (fun h => absurd (nI_le (Nat.le_refl _) (by omega)) h)
        refine gl_drop 3 ?_
        exact s3 _ ha
    · rw [if_neg hw] at ha
      refine gl_iload_n dX1_counted_102 rfl ?_
      refine gl_bipush (v := nI 6) dX1_counted_103 (by decide) ?_
      refine gl_icmp_ge (tgt := 137) dX1_counted_105 (by decide) (fun h => absurd h (nI_ge (by omega) (by omega))) (fun _ => ?_)
      refine gl_iload_n dX1_counted_108 rfl ?_
      refine gl_bipush (v := nI 6) dX1_counted_109 (by decide) ?_
      refine gl_icmp_ne (tgt := 137) dX1_counted_111 (by decide) (fun _ => ?_) (fun h => absurd h (fun z => hw ((nq 6 (by omega)).mp z)))
      refine gl_drop 3 ?_
      exact s3 _ ha
  have s1 : ∀ a, R = (if wh < 3 then y.2.2 23 wh else cg5 (y.2.2 25) wh (cg4 (y.2.2 21) wh (cg3 (y.2.2 19) wh (cg2 (y.2.2 23) m wh a)))) → GL gX1_counted (rm (L + 13) 0 0) (Rt (some (.int R)) (mM o y)) 0 0 61 [some (.ref 18), some (.int (nI wh)), some (.int a), none] [] (mM o y) := by
    intro a ha
    unfold cg2 at ha
    refine gl_iconst (v := nI 0) dX1_counted_61 (by decide) ?_
    refine gl_istore_n dX1_counted_62 rfl rfl ?_
    by_cases hw : wh = 4
    · rw [if_pos hw] at ha
      refine gl_loop (fun k => [some (.ref 18), some (.int (nI wh)), some (.int (cntF a (frQ (y.2.2 23)) k)), some (.int (nI k))]) (fun _ => mM o y) m ?_ ?_
      · intro k hk ih
        refine gl_iload_n dX1_counted_63 rfl ?_
        refine gl_aload_n dX1_counted_64 rfl ?_
        refine gl_get (k := 4) dX1_counted_65 rfl (rfl : vwCl[1]? = some (RX1, TX1, 21)) in_X1 (by decide) q1024 rfl ?_
        refine gl_iconst (v := nI 1) dX1_counted_68 (by decide) ?_
        refine gl_iald (j := 1) dX1_counted_69 rfl rfl (by omega) ?_
        refine gl_icmp_ge (tgt := 100) dX1_counted_70 (by decide) (fun h => absurd h ((by rw [hL.q]; exact nI_ge hk (by omega)))) (fun _ => ?_)
        refine gl_iload_n dX1_counted_73 rfl ?_
        refine gl_iconst (v := nI 4) dX1_counted_74 (by decide) ?_
        refine gl_icmp_ne (tgt := 100) dX1_counted_75 (by decide) (fun h => absurd (by rw [hw]) h) (fun _ => ?_)
        refine gl_iload_n dX1_counted_78 rfl ?_
        refine gl_aload_n dX1_counted_79 rfl ?_
        refine gl_iload_n dX1_counted_80 rfl ?_
        refine gl_callV (m_isFree L o y (k) (by omega)) dX1_counted_81 q1240 q1242 qs59 q75 q1243 rfl hX1_isFree rfl (rfl : vwCl[1]? = some (RX1, TX1, 21)) rfl rfl (rmOk (by omega) rfl) ⟨by first | exact Nat.le_refl _ | exact Nat.zero_le _ | decide | (dsimp only [rm]; omega), by first | exact Nat.le_refl _ | exact Nat.zero_le _ | decide | (dsimp only [rm]; omega)⟩ (rt1 ?_)
        refine gl_if_eq (tgt := 91) dX1_counted_84 (by decide) (fun h84 => ?_) (fun h84 => ?_)
        · refine gl_iconst (v := nI 0) dX1_counted_91 (by decide) ?_
          refine gl_iadd dX1_counted_92 ?_
          refine gl_istore_n dX1_counted_93 rfl rfl ?_
          refine gl_iinc (v := (nI (k + 1))) dX1_counted_94 rfl (nI_1 _) rfl rfl ?_
          refine gl_goto (tgt := 63) dX1_counted_97 (by decide) ?_
          refine gl_lcs ?_ ih; clear ih s5 s4 s3 s2; (try simp only [bI_ne] at *); simp_all [cntF, bI] <;> rfl
        · refine gl_iconst (v := nI 1) dX1_counted_87 (by decide) ?_
          refine gl_goto (tgt := 92) dX1_counted_88 (by decide) ?_
          refine gl_iadd dX1_counted_92 ?_
          refine gl_istore_n dX1_counted_93 rfl rfl ?_
          refine gl_iinc (v := (nI (k + 1))) dX1_counted_94 rfl (nI_1 _) rfl rfl ?_
          refine gl_goto (tgt := 63) dX1_counted_97 (by decide) ?_
          refine gl_lcs ?_ ih; clear ih s5 s4 s3 s2; (try simp only [bI_ne] at *); simp_all [cntF, bI] <;> rfl
      · refine gl_iload_n dX1_counted_63 rfl ?_
        refine gl_aload_n dX1_counted_64 rfl ?_
        refine gl_get (k := 4) dX1_counted_65 rfl (rfl : vwCl[1]? = some (RX1, TX1, 21)) in_X1 (by decide) q1024 rfl ?_
        refine gl_iconst (v := nI 1) dX1_counted_68 (by decide) ?_
        refine gl_iald (j := 1) dX1_counted_69 rfl rfl (by omega) ?_
        refine gl_icmp_ge (tgt := 100) dX1_counted_70 (by decide) (fun _ => ?_) (fun h => absurd ((by rw [hL.q]; exact nI_le (Nat.le_refl _) (by omega))) h)
        refine gl_drop 3 ?_
        exact s2 _ ha
    · rw [if_neg hw] at ha
      refine gl_iload_n dX1_counted_63 rfl ?_
      refine gl_aload_n dX1_counted_64 rfl ?_
      refine gl_get (k := 4) dX1_counted_65 rfl (rfl : vwCl[1]? = some (RX1, TX1, 21)) in_X1 (by decide) q1024 rfl ?_
      refine gl_iconst (v := nI 1) dX1_counted_68 (by decide) ?_
      refine gl_iald (j := 1) dX1_counted_69 rfl rfl (by omega) ?_
      refine gl_icmp_ge (tgt := 100) dX1_counted_70 (by decide) (fun h70 => ?_) (fun h70 => ?_)
      · refine gl_drop 3 ?_
        exact s2 _ ha
      · refine gl_iload_n dX1_counted_73 rfl ?_
        refine gl_iconst (v := nI 4) dX1_counted_74 (by decide) ?_
        refine gl_icmp_ne (tgt := 100) dX1_counted_75 (by decide) (fun _ => ?_) (fun h => absurd h (fun z => hw ((nq 4 (by omega)).mp z)))
        refine gl_drop 3 ?_
        exact s2 _ ha
  refine gl_iconst (v := nI 0) dX1_counted_0 (by decide) ?_
  refine gl_istore_n dX1_counted_1 rfl rfl ?_
  refine gl_iconst (v := nI 0) dX1_counted_2 (by decide) ?_
  refine gl_istore_n dX1_counted_3 rfl rfl ?_
  refine gl_loop (fun k => [some (.ref 18), some (.int (nI wh)), some (.int (cg1 (y.2.2 23) k m wh)), some (.int (nI k))]) (fun _ => mM o y) n ?_ ?_
  · intro k hk ih
    refine gl_iload_n dX1_counted_4 rfl ?_
    refine gl_aload_n dX1_counted_5 rfl ?_
    refine gl_get (k := 4) dX1_counted_6 rfl (rfl : vwCl[1]? = some (RX1, TX1, 21)) in_X1 (by decide) q1024 rfl ?_
    refine gl_iconst (v := nI 0) dX1_counted_9 (by decide) ?_
    refine gl_iald (j := 0) dX1_counted_10 rfl rfl (by omega) ?_
    refine gl_icmp_ge (tgt := 61) dX1_counted_11 (by decide) (fun h => absurd h ((by rw [hL.c]; exact nI_ge hk (by omega)))) (fun _ => ?_)
    have q3 := nq 3 (by omega)
    have q5 := nq 5 (by omega)
    refine gl_iload_n dX1_counted_14 rfl ?_
    refine gl_iload_n dX1_counted_15 rfl ?_
    refine gl_iconst (v := nI 3) dX1_counted_16 (by decide) ?_
    refine gl_icmp_ne (tgt := 28) dX1_counted_17 (by decide) (fun h17 => ?_) (fun h17 => ?_)
    · refine gl_iload_n dX1_counted_28 rfl ?_
      refine gl_iconst (v := nI 5) dX1_counted_29 (by decide) ?_
      refine gl_icmp_ne (tgt := 52) dX1_counted_30 (by decide) (fun h30 => ?_) (fun h30 => ?_)
      · refine gl_iconst (v := nI 0) dX1_counted_52 (by decide) ?_
        refine gl_iadd dX1_counted_53 ?_
        refine gl_istore_n dX1_counted_54 rfl rfl ?_
        refine gl_iinc (v := (nI (k + 1))) dX1_counted_55 rfl (nI_1 _) rfl rfl ?_
        refine gl_goto (tgt := 4) dX1_counted_58 (by decide) ?_
        refine gl_lcs ?_ ih; clear ih s5 s4 s3 s2 s1 nq; (try simp only [bI_ne, q3, q5] at *); simp_all [cg1, cntI, bI, nI] <;> rfl
      · refine gl_aload_n dX1_counted_33 rfl ?_
        refine gl_get (k := 4) dX1_counted_34 rfl (rfl : vwCl[1]? = some (RX1, TX1, 21)) in_X1 (by decide) q1024 rfl ?_
        refine gl_iconst (v := nI 3) dX1_counted_37 (by decide) ?_
        refine gl_iload_n dX1_counted_38 rfl ?_
        refine gl_iadd dX1_counted_39 ?_
        refine gl_iald (j := (3 + k)) dX1_counted_40 rfl (by simp only [nI_add, nI_mul]) (by omega) ?_
        refine gl_iconst (v := nI 2) dX1_counted_41 (by decide) ?_
        refine gl_callS (m_isOf L (mM o y) _ _) dX1_counted_42 q1204 q1205 q75 q1206 rfl hX1_isOf rfl rfl (rmOk (by omega) rfl) ⟨by first | exact Nat.le_refl _ | exact Nat.zero_le _ | decide | (dsimp only [rm]; omega), by first | exact Nat.le_refl _ | exact Nat.zero_le _ | decide | (dsimp only [rm]; omega)⟩ (rt1 ?_)
        refine gl_if_eq (tgt := 52) dX1_counted_45 (by decide) (fun h45 => ?_) (fun h45 => ?_)
        · refine gl_iconst (v := nI 0) dX1_counted_52 (by decide) ?_
          refine gl_iadd dX1_counted_53 ?_
          refine gl_istore_n dX1_counted_54 rfl rfl ?_
          refine gl_iinc (v := (nI (k + 1))) dX1_counted_55 rfl (nI_1 _) rfl rfl ?_
          refine gl_goto (tgt := 4) dX1_counted_58 (by decide) ?_
          refine gl_lcs ?_ ih; clear ih s5 s4 s3 s2 s1 nq; (try simp only [bI_ne, q3, q5] at *); simp_all [cg1, cntI, bI, nI] <;> rfl
        · refine gl_iconst (v := nI 1) dX1_counted_48 (by decide) ?_
          refine gl_goto (tgt := 53) dX1_counted_49 (by decide) ?_
          refine gl_iadd dX1_counted_53 ?_
          refine gl_istore_n dX1_counted_54 rfl rfl ?_
          refine gl_iinc (v := (nI (k + 1))) dX1_counted_55 rfl (nI_1 _) rfl rfl ?_
          refine gl_goto (tgt := 4) dX1_counted_58 (by decide) ?_
          refine gl_lcs ?_ ih; clear ih s5 s4 s3 s2 s1 nq; (try simp only [bI_ne, q3, q5] at *); simp_all [cg1, cntI, bI, nI] <;> rfl
    · refine gl_aload_n dX1_counted_20 rfl ?_
      refine gl_iload_n dX1_counted_21 rfl ?_
      refine gl_callV (m_isFreeCard L o y hL (k)) dX1_counted_22 q1244 q1246 qs60 q75 q1247 rfl hX1_isFreeCard rfl (rfl : vwCl[1]? = some (RX1, TX1, 21)) rfl rfl (rmOk (by omega) rfl) ⟨by first | exact Nat.le_refl _ | exact Nat.zero_le _ | decide | (dsimp only [rm]; omega), by first | exact Nat.le_refl _ | exact Nat.zero_le _ | decide | (dsimp only [rm]; omega)⟩ (rt1 ?_)
      refine gl_if_ne (tgt := 48) dX1_counted_25 (by decide) (fun h25 => ?_) (fun h25 => ?_)
      · refine gl_iconst (v := nI 1) dX1_counted_48 (by decide) ?_
        refine gl_goto (tgt := 53) dX1_counted_49 (by decide) ?_
        refine gl_iadd dX1_counted_53 ?_
        refine gl_istore_n dX1_counted_54 rfl rfl ?_
        refine gl_iinc (v := (nI (k + 1))) dX1_counted_55 rfl (nI_1 _) rfl rfl ?_
        refine gl_goto (tgt := 4) dX1_counted_58 (by decide) ?_
        refine gl_lcs ?_ ih; clear ih s5 s4 s3 s2 s1 nq; (try simp only [bI_ne, q3, q5] at *); simp_all [cg1, cntI, bI, nI] <;> rfl
      · refine gl_iload_n dX1_counted_28 rfl ?_
        refine gl_iconst (v := nI 5) dX1_counted_29 (by decide) ?_
        refine gl_icmp_ne (tgt := 52) dX1_counted_30 (by decide) (fun h30 => ?_) (fun h30 => ?_)
        · refine gl_iconst (v := nI 0) dX1_counted_52 (by decide) ?_
          refine gl_iadd dX1_counted_53 ?_
          refine gl_istore_n dX1_counted_54 rfl rfl ?_
          refine gl_iinc (v := (nI (k + 1))) dX1_counted_55 rfl (nI_1 _) rfl rfl ?_
          refine gl_goto (tgt := 4) dX1_counted_58 (by decide) ?_
          refine gl_lcs ?_ ih; clear ih s5 s4 s3 s2 s1 nq; (try simp only [bI_ne, q3, q5] at *); simp_all [cg1, cntI, bI, nI] <;> rfl
        · refine gl_aload_n dX1_counted_33 rfl ?_
          refine gl_get (k := 4) dX1_counted_34 rfl (rfl : vwCl[1]? = some (RX1, TX1, 21)) in_X1 (by decide) q1024 rfl ?_
          refine gl_iconst (v := nI 3) dX1_counted_37 (by decide) ?_
          refine gl_iload_n dX1_counted_38 rfl ?_
          refine gl_iadd dX1_counted_39 ?_
          refine gl_iald (j := (3 + k)) dX1_counted_40 rfl (by simp only [nI_add, nI_mul]) (by omega) ?_
          refine gl_iconst (v := nI 2) dX1_counted_41 (by decide) ?_
          refine gl_callS (m_isOf L (mM o y) _ _) dX1_counted_42 q1204 q1205 q75 q1206 rfl hX1_isOf rfl rfl (rmOk (by omega) rfl) ⟨by first | exact Nat.le_refl _ | exact Nat.zero_le _ | decide | (dsimp only [rm]; omega), by first | exact Nat.le_refl _ | exact Nat.zero_le _ | decide | (dsimp only [rm]; omega)⟩ (rt1 ?_)
          refine gl_if_eq (tgt := 52) dX1_counted_45 (by decide) (fun h45 => ?_) (fun h45 => ?_)
          · refine gl_iconst (v := nI 0) dX1_counted_52 (by decide) ?_
            refine gl_iadd dX1_counted_53 ?_
            refine gl_istore_n dX1_counted_54 rfl rfl ?_
            refine gl_iinc (v := (nI (k + 1))) dX1_counted_55 rfl (nI_1 _) rfl rfl ?_
            refine gl_goto (tgt := 4) dX1_counted_58 (by decide) ?_
            refine gl_lcs ?_ ih; clear ih s5 s4 s3 s2 s1 nq; (try simp only [bI_ne, q3, q5] at *); simp_all [cg1, cntI, bI, nI] <;> rfl
          · refine gl_iconst (v := nI 1) dX1_counted_48 (by decide) ?_
            refine gl_goto (tgt := 53) dX1_counted_49 (by decide) ?_
            refine gl_iadd dX1_counted_53 ?_
            refine gl_istore_n dX1_counted_54 rfl rfl ?_
            refine gl_iinc (v := (nI (k + 1))) dX1_counted_55 rfl (nI_1 _) rfl rfl ?_
            refine gl_goto (tgt := 4) dX1_counted_58 (by decide) ?_
            refine gl_lcs ?_ ih; clear ih s5 s4 s3 s2 s1 nq; (try simp only [bI_ne, q3, q5] at *); simp_all [cg1, cntI, bI, nI] <;> rfl
  · refine gl_iload_n dX1_counted_4 rfl ?_
    refine gl_aload_n dX1_counted_5 rfl ?_
    refine gl_get (k := 4) dX1_counted_6 rfl (rfl : vwCl[1]? = some (RX1, TX1, 21)) in_X1 (by decide) q1024 rfl ?_
    refine gl_iconst (v := nI 0) dX1_counted_9 (by decide) ?_
    refine gl_iald (j := 0) dX1_counted_10 rfl rfl (by omega) ?_
    refine gl_icmp_ge (tgt := 61) dX1_counted_11 (by decide) (fun _ => ?_) (fun h => absurd ((by rw [hL.c]; exact nI_le (Nat.le_refl _) (by omega))) h)
    refine gl_drop 3 ?_
    exact s1 _ hR.symm
def sp_count (y : MY) (n m : Nat) (wh : Int32) : Int32 × MY := (if inR wh 0 8 then ctI y n m (ix wh) else -1, y)
theorem m_count (hL : Lb (y.2.2 23) n m t) (wh : Int32) : Ct yX1_count gX1_count (L + 14) 0 0 [.ref 18, .int wh] (mM o y) (RtP o (sp_count y n m wh)) := by
  refine Ct.of rfl rfl rfl rfl rfl ?_
  refine gl_iload_n dX1_count_0 rfl ?_
  refine gl_i2l dX1_count_1 ?_
  refine gl_lconst (v := 0) dX1_count_2 (by decide) ?_
  refine gl_ldc2 (v := 8) q1414 dX1_count_3 ?_
  refine gl_callS (m_in_i L _ _ 0 8 rfl rfl) dX1_count_6 q1093 q1094 q75 q1095 rfl hX1_in rfl rfl (rmOk (by omega) rfl) ⟨by first | exact Nat.le_refl _ | exact Nat.zero_le _ | decide | (dsimp only [rm]; omega), by first | exact Nat.le_refl _ | exact Nat.zero_le _ | decide | (dsimp only [rm]; omega)⟩ (rt1 ?_)
  refine gl_if_eq (tgt := 20) dX1_count_9 (by decide) (fun h9 => ?_) (fun h9 => ?_)
  · unfold sp_count
    rw [if_neg (by simp [bI_fa h9])]
    refine gl_iconst (v := (-1)) dX1_count_20 (by decide) ?_
    exact gl_iret dX1_count_21 rfl ⟨rfl, rfl⟩
  · have hr := bI_tr h9
    unfold sp_count
    rw [if_pos hr]
    obtain ⟨k, -, hk, rfl⟩ := inR_nat (a := 0) (b := 8) (by omega) (by omega) hr
    rw [ix_nI (show k < 100 by omega)]
    refine gl_aload_n dX1_count_12 rfl ?_
    refine gl_iload_n dX1_count_13 rfl ?_
    refine gl_callV (m_counted L o y hL k (by omega)) dX1_count_14 q1415 q1417 qs72 q75 q1418 rfl hX1_counted rfl (rfl : vwCl[1]? = some (RX1, TX1, 21)) rfl rfl (rmOk (by omega) rfl) ⟨by first | exact Nat.le_refl _ | exact Nat.zero_le _ | decide | (dsimp only [rm]; omega), by first | exact Nat.le_refl _ | exact Nat.zero_le _ | decide | (dsimp only [rm]; omega)⟩ (rt1 ?_)
    refine gl_goto (tgt := 21) dX1_count_17 (by decide) ?_
    exact gl_iret dX1_count_21 rfl ⟨rfl, rfl⟩
def mxF (h : Int64) (f : Nat → Int32) : Nat → Int64
  | 0 => h
  | k + 1 => 31 * mxF h f k + (f k).toInt64
def mx2 (h : Int64) (g : Nat → Nat → Int32) : Nat → Int64
  | 0 => h
  | c + 1 => mxF (mx2 h g c) (g c) 6
def mx3 (h : Int64) (z : Nat → Int32) (g : Nat → Nat → Int32) : Nat → Int64
  | 0 => h
  | r + 1 => mxF (31 * mx3 h z g r + (z r).toInt64) (g r) (ix (z r))
def dg1 (y : MY) (n m : Nat) : Int64 := mxF 17 (fun k => ctI y n m k) 9
def dg2 (y : MY) (n m : Nat) (h : Int64) : Int64 := mx2 h (fun c k => toldC (y.2.2 23) m c (nI k)) n
def dg3 (y : MY) (m : Nat) (h : Int64) : Int64 := mx2 h (fun q k => y.2.2 23 (31 + 7 * k + q)) m
def dg4 (y : MY) (t : Nat) (h : Int64) : Int64 := mxF h (fun k => y.2.2 23 (73 + k)) t
def dg5 (y : MY) (h : Int64) : Int64 := mxF h (fun k => if y.2.2 25 k = 0 then -1 else y.2.2 24 (393 * k + 2)) 3
def dg6 (y : MY) (h : Int64) : Int64 := mx3 h (y.2.2 19) (fun r i => y.2.2 20 (40 * r + i)) 6
def dg7 (y : MY) (h : Int64) : Int64 := mx3 h (y.2.2 21) (fun r i => y.2.2 22 (80 * r + i)) 4
def dgI (y : MY) (n m t : Nat) : Int64 := dg7 y (dg6 y (dg5 y (dg4 y t (dg3 y m (dg2 y n m (dg1 y n m))))))
theorem ix_neg : ix (-1) = 0 := by decide
theorem sz_ix {f : Nat → Int32} {R N r : Nat} (hN : N < 1000) (h : szs f R N) (hr : r < R) : ix (f r) ≤ N ∧ (∀ k, k < ix (f r) → ¬ f r ≤ nI k) ∧ f r ≤ nI (ix (f r)) := by
  rcases h r hr with e | ⟨k, hk, e⟩
  · rw [e, ix_neg]
    exact ⟨Nat.zero_le _, fun k hk => by omega, by decide⟩
  · rw [e, show ix (nI k) = k from nI_clamp (by omega)]
    exact ⟨hk, fun j hj => nI_ge hj (by omega), nI_le (Nat.le_refl _) (by omega)⟩
theorem m_digest (hL : Lb (y.2.2 23) n m t) (hR : szs (y.2.2 19) 6 40) (hT : szs (y.2.2 21) 4 80) : Ct yX1_digest gX1_digest (L + 14) 0 0 [.ref 18] (mM o y) (Rt (some (.long (dgI y n m t))) (mM o y)) := by
  refine Ct.of rfl rfl rfl rfl rfl ?_
  have h7 := hL.c7
  have h7q := hL.q7
  have h40 := hL.t40
  generalize hV : dgI y n m t = V
  have s7 : ∀ h, V = dg7 y h → GL gX1_digest (rm (L + 14) 0 0) (Rt (some (.long V)) (mM o y)) 0 0 286 [some (.ref 18), some (.long h), none, none, none] [] (mM o y) := by
    intro h hh
    refine gl_iconst (v := nI 0) dX1_digest_286 (by decide) ?_
    refine gl_istore_n dX1_digest_287 rfl rfl ?_
    refine gl_loop (fun r => [some (.ref 18), some (.long (mx3 h (y.2.2 21) (fun r i => y.2.2 22 (80 * r + i)) r)), none, some (.int (nI r)), none]) (fun _ => mM o y) 4 ?_ ?_
    · intro r hr ih
      obtain ⟨z1, z2, z3⟩ := sz_ix (by omega) hT hr
      refine gl_iload_n dX1_digest_288 rfl ?_
      refine gl_iconst (v := nI 4) dX1_digest_289 (by decide) ?_
      refine gl_icmp_ge (tgt := 353) dX1_digest_290 (by decide) (fun h => absurd h (nI_ge hr (by omega))) (fun _ => ?_)
      refine gl_ldc2 (v := 31) q1432 dX1_digest_293 ?_
      refine gl_lload_n dX1_digest_296 rfl ?_
      refine gl_lmul dX1_digest_297 ?_
      refine gl_aload_n dX1_digest_298 rfl ?_
      refine gl_get (k := 2) dX1_digest_299 rfl (rfl : vwCl[1]? = some (RX1, TX1, 21)) in_X1 (by decide) q1022 rfl ?_
      refine gl_iload_n dX1_digest_302 rfl ?_
      refine gl_iald (j := r) dX1_digest_303 rfl rfl (by omega) ?_
      refine gl_i2l dX1_digest_304 ?_
      refine gl_ladd dX1_digest_305 ?_
      refine gl_lstore_n dX1_digest_306 rfl rfl ?_
      refine gl_iconst (v := nI 0) dX1_digest_307 (by decide) ?_
      refine gl_istore dX1_digest_308 rfl rfl ?_
      refine gl_loop (fun i => [some (.ref 18), some (.long (mxF (31 * mx3 h (y.2.2 21) (fun r i => y.2.2 22 (80 * r + i)) r + (y.2.2 21 r).toInt64) (fun i => y.2.2 22 (80 * r + i)) i)), none, some (.int (nI r)), some (.int (nI i))]) (fun _ => mM o y) (ix (y.2.2 21 r)) ?_ ?_
      · intro i hi ih2
        refine gl_iload dX1_digest_310 rfl ?_
        refine gl_aload_n dX1_digest_312 rfl ?_
        refine gl_get (k := 2) dX1_digest_313 rfl (rfl : vwCl[1]? = some (RX1, TX1, 21)) in_X1 (by decide) q1022 rfl ?_
        refine gl_iload_n dX1_digest_316 rfl ?_
        refine gl_iald (j := r) dX1_digest_317 rfl rfl (by omega) ?_
        refine gl_icmp_ge (tgt := 347) dX1_digest_318 (by decide) (fun h => absurd h (z2 i hi)) (fun _ => ?_)
        refine gl_ldc2 (v := 31) q1432 dX1_digest_321 ?_
        refine gl_lload_n dX1_digest_324 rfl ?_
        refine gl_lmul dX1_digest_325 ?_
        refine gl_aload_n dX1_digest_326 rfl ?_
        refine gl_get (k := 3) dX1_digest_327 rfl (rfl : vwCl[1]? = some (RX1, TX1, 21)) in_X1 (by decide) q1023 rfl ?_
        refine gl_bipush (v := nI 80) dX1_digest_330 (by decide) ?_
        refine gl_iload_n dX1_digest_332 rfl ?_
        refine gl_imul dX1_digest_333 ?_
        refine gl_iload dX1_digest_334 rfl ?_
        refine gl_iadd dX1_digest_336 ?_
        refine gl_iald (j := ((80 * r) + i)) dX1_digest_337 rfl (by simp only [nI_add, nI_mul]) (by omega) ?_
        refine gl_i2l dX1_digest_338 ?_
        refine gl_ladd dX1_digest_339 ?_
        refine gl_lstore_n dX1_digest_340 rfl rfl ?_
        refine gl_iinc (v := (nI (i + 1))) dX1_digest_341 rfl (nI_1 _) rfl rfl ?_
        refine gl_goto (tgt := 310) dX1_digest_344 (by decide) ?_
        exact ih2
      · refine gl_iload dX1_digest_310 rfl ?_
        refine gl_aload_n dX1_digest_312 rfl ?_
        refine gl_get (k := 2) dX1_digest_313 rfl (rfl : vwCl[1]? = some (RX1, TX1, 21)) in_X1 (by decide) q1022 rfl ?_
        refine gl_iload_n dX1_digest_316 rfl ?_
        refine gl_iald (j := r) dX1_digest_317 rfl rfl (by omega) ?_
        refine gl_icmp_ge (tgt := 347) dX1_digest_318 (by decide) (fun _ => ?_) (fun h => absurd (z3) h)
        refine gl_iinc (v := (nI (r + 1))) dX1_digest_347 rfl (nI_1 _) rfl rfl ?_
        refine gl_goto (tgt := 288) dX1_digest_350 (by decide) ?_
        refine gl_drop 4 ?_
        exact ih
    · refine gl_iload_n dX1_digest_288 rfl ?_
      refine gl_iconst (v := nI 4) dX1_digest_289 (by decide) ?_
      refine gl_icmp_ge (tgt := 353) dX1_digest_290 (by decide) (fun _ => ?_) (fun h => absurd (nI_le (Nat.le_refl _) (by omega)) h)
      refine gl_lload_n dX1_digest_353 rfl ?_
      exact gl_lret dX1_digest_354 rfl ⟨by rw [hh]; rfl, rfl⟩
  have s6 : ∀ h, V = dg7 y (dg6 y h) → GL gX1_digest (rm (L + 14) 0 0) (Rt (some (.long V)) (mM o y)) 0 0 218 [some (.ref 18), some (.long h), none, none, none] [] (mM o y) := by
    intro h hh
    refine gl_iconst (v := nI 0) dX1_digest_218 (by decide) ?_
    refine gl_istore_n dX1_digest_219 rfl rfl ?_
    refine gl_loop (fun r => [some (.ref 18), some (.long (mx3 h (y.2.2 19) (fun r i => y.2.2 20 (40 * r + i)) r)), none, some (.int (nI r)), none]) (fun _ => mM o y) 6 ?_ ?_
    · intro r hr ih
      obtain ⟨z1, z2, z3⟩ := sz_ix (by omega) hR hr
      refine gl_iload_n dX1_digest_220 rfl ?_
      refine gl_bipush (v := nI 6) dX1_digest_221 (by decide) ?_
      refine gl_icmp_ge (tgt := 286) dX1_digest_223 (by decide) (fun h => absurd h (nI_ge hr (by omega))) (fun _ => ?_)
      refine gl_ldc2 (v := 31) q1432 dX1_digest_226 ?_
      refine gl_lload_n dX1_digest_229 rfl ?_
      refine gl_lmul dX1_digest_230 ?_
      refine gl_aload_n dX1_digest_231 rfl ?_
      refine gl_get (k := 0) dX1_digest_232 rfl (rfl : vwCl[1]? = some (RX1, TX1, 21)) in_X1 (by decide) q1020 rfl ?_
      refine gl_iload_n dX1_digest_235 rfl ?_
      refine gl_iald (j := r) dX1_digest_236 rfl rfl (by omega) ?_
      refine gl_i2l dX1_digest_237 ?_
      refine gl_ladd dX1_digest_238 ?_
      refine gl_lstore_n dX1_digest_239 rfl rfl ?_
      refine gl_iconst (v := nI 0) dX1_digest_240 (by decide) ?_
      refine gl_istore dX1_digest_241 rfl rfl ?_
      refine gl_loop (fun i => [some (.ref 18), some (.long (mxF (31 * mx3 h (y.2.2 19) (fun r i => y.2.2 20 (40 * r + i)) r + (y.2.2 19 r).toInt64) (fun i => y.2.2 20 (40 * r + i)) i)), none, some (.int (nI r)), some (.int (nI i))]) (fun _ => mM o y) (ix (y.2.2 19 r)) ?_ ?_
      · intro i hi ih2
        refine gl_iload dX1_digest_243 rfl ?_
        refine gl_aload_n dX1_digest_245 rfl ?_
        refine gl_get (k := 0) dX1_digest_246 rfl (rfl : vwCl[1]? = some (RX1, TX1, 21)) in_X1 (by decide) q1020 rfl ?_
        refine gl_iload_n dX1_digest_249 rfl ?_
        refine gl_iald (j := r) dX1_digest_250 rfl rfl (by omega) ?_
        refine gl_icmp_ge (tgt := 280) dX1_digest_251 (by decide) (fun h => absurd h (z2 i hi)) (fun _ => ?_)
        refine gl_ldc2 (v := 31) q1432 dX1_digest_254 ?_
        refine gl_lload_n dX1_digest_257 rfl ?_
        refine gl_lmul dX1_digest_258 ?_
        refine gl_aload_n dX1_digest_259 rfl ?_
        refine gl_get (k := 1) dX1_digest_260 rfl (rfl : vwCl[1]? = some (RX1, TX1, 21)) in_X1 (by decide) q1021 rfl ?_
        refine gl_bipush (v := nI 40) dX1_digest_263 (by decide) ?_
        refine gl_iload_n dX1_digest_265 rfl ?_
        refine gl_imul dX1_digest_266 ?_
        refine gl_iload dX1_digest_267 rfl ?_
        refine gl_iadd dX1_digest_269 ?_
        refine gl_iald (j := ((40 * r) + i)) dX1_digest_270 rfl (by simp only [nI_add, nI_mul]) (by omega) ?_
        refine gl_i2l dX1_digest_271 ?_
        refine gl_ladd dX1_digest_272 ?_
        refine gl_lstore_n dX1_digest_273 rfl rfl ?_
        refine gl_iinc (v := (nI (i + 1))) dX1_digest_274 rfl (nI_1 _) rfl rfl ?_
        refine gl_goto (tgt := 243) dX1_digest_277 (by decide) ?_
        exact ih2
      · refine gl_iload dX1_digest_243 rfl ?_
        refine gl_aload_n dX1_digest_245 rfl ?_
        refine gl_get (k := 0) dX1_digest_246 rfl (rfl : vwCl[1]? = some (RX1, TX1, 21)) in_X1 (by decide) q1020 rfl ?_
        refine gl_iload_n dX1_digest_249 rfl ?_
        refine gl_iald (j := r) dX1_digest_250 rfl rfl (by omega) ?_
        refine gl_icmp_ge (tgt := 280) dX1_digest_251 (by decide) (fun _ => ?_) (fun h => absurd (z3) h)
        refine gl_iinc (v := (nI (r + 1))) dX1_digest_280 rfl (nI_1 _) rfl rfl ?_
        refine gl_goto (tgt := 220) dX1_digest_283 (by decide) ?_
        refine gl_drop 4 ?_
        exact ih
    · refine gl_iload_n dX1_digest_220 rfl ?_
      refine gl_bipush (v := nI 6) dX1_digest_221 (by decide) ?_
      refine gl_icmp_ge (tgt := 286) dX1_digest_223 (by decide) (fun _ => ?_) (fun h => absurd (nI_le (Nat.le_refl _) (by omega)) h)
      refine gl_drop 3 ?_
      exact s7 _ hh
  have s5 : ∀ h, V = dg7 y (dg6 y (dg5 y h)) → GL gX1_digest (rm (L + 14) 0 0) (Rt (some (.long V)) (mM o y)) 0 0 172 [some (.ref 18), some (.long h), none, none, none] [] (mM o y) := by
    intro h hh
    refine gl_iconst (v := nI 0) dX1_digest_172 (by decide) ?_
    refine gl_istore_n dX1_digest_173 rfl rfl ?_
    refine gl_loop (fun k => [some (.ref 18), some (.long (mxF h (fun k => if y.2.2 25 k = 0 then -1 else y.2.2 24 (393 * k + 2)) k)), none, some (.int (nI k)), none]) (fun _ => mM o y) 3 ?_ ?_
    · intro k hk ih
      refine gl_iload_n dX1_digest_174 rfl ?_
      refine gl_iconst (v := nI 3) dX1_digest_175 (by decide) ?_
      refine gl_icmp_ge (tgt := 218) dX1_digest_176 (by decide) (fun h => absurd h (nI_ge hk (by omega))) (fun _ => ?_)
      refine gl_ldc2 (v := 31) q1432 dX1_digest_179 ?_
      refine gl_lload_n dX1_digest_182 rfl ?_
      refine gl_lmul dX1_digest_183 ?_
      refine gl_aload_n dX1_digest_184 rfl ?_
      refine gl_get (k := 6) dX1_digest_185 rfl (rfl : vwCl[1]? = some (RX1, TX1, 21)) in_X1 (by decide) q1026 rfl ?_
      refine gl_iload_n dX1_digest_188 rfl ?_
      refine gl_zald (j := k) dX1_digest_189 rfl rfl (by omega) ?_
      refine gl_if_eq (tgt := 208) dX1_digest_190 (by decide) (fun h190 => ?_) (fun h190 => ?_)
      · refine gl_iconst (v := (-1)) dX1_digest_208 (by decide) ?_
        refine gl_i2l dX1_digest_209 ?_
        refine gl_ladd dX1_digest_210 ?_
        refine gl_lstore_n dX1_digest_211 rfl rfl ?_
        refine gl_iinc (v := (nI (k + 1))) dX1_digest_212 rfl (nI_1 _) rfl rfl ?_
        refine gl_goto (tgt := 174) dX1_digest_215 (by decide) ?_
        exact gl_lcs (by simp only [mxF]; (first | rw [if_pos h190] | rw [if_neg h190]) <;> rfl) ih
      · refine gl_aload_n dX1_digest_193 rfl ?_
        refine gl_get (k := 5) dX1_digest_194 rfl (rfl : vwCl[1]? = some (RX1, TX1, 21)) in_X1 (by decide) q1025 rfl ?_
        refine gl_sipush (v := nI 393) dX1_digest_197 (by decide) ?_
        refine gl_iload_n dX1_digest_200 rfl ?_
        refine gl_imul dX1_digest_201 ?_
        refine gl_iconst (v := nI 2) dX1_digest_202 (by decide) ?_
        refine gl_iadd dX1_digest_203 ?_
        refine gl_iald (j := ((393 * k) + 2)) dX1_digest_204 rfl (by simp only [nI_add, nI_mul]) (by omega) ?_
        refine gl_goto (tgt := 209) dX1_digest_205 (by decide) ?_
        refine gl_i2l dX1_digest_209 ?_
        refine gl_ladd dX1_digest_210 ?_
        refine gl_lstore_n dX1_digest_211 rfl rfl ?_
        refine gl_iinc (v := (nI (k + 1))) dX1_digest_212 rfl (nI_1 _) rfl rfl ?_
        refine gl_goto (tgt := 174) dX1_digest_215 (by decide) ?_
        exact gl_lcs (by simp only [mxF]; (first | rw [if_pos h190] | rw [if_neg h190]) <;> rfl) ih
    · refine gl_iload_n dX1_digest_174 rfl ?_
      refine gl_iconst (v := nI 3) dX1_digest_175 (by decide) ?_
      refine gl_icmp_ge (tgt := 218) dX1_digest_176 (by decide) (fun _ => ?_) (fun h => absurd (nI_le (Nat.le_refl _) (by omega)) h)
      refine gl_drop 3 ?_
      exact s6 _ hh
  have s4 : ∀ h, V = dg7 y (dg6 y (dg5 y (dg4 y t h))) → GL gX1_digest (rm (L + 14) 0 0) (Rt (some (.long V)) (mM o y)) 0 0 137 [some (.ref 18), some (.long h), none, none, none] [] (mM o y) := by
    intro h hh
    refine gl_iconst (v := nI 0) dX1_digest_137 (by decide) ?_
    refine gl_istore_n dX1_digest_138 rfl rfl ?_
    refine gl_loop (fun k => [some (.ref 18), some (.long (mxF h (fun k => y.2.2 23 (73 + k)) k)), none, some (.int (nI k)), none]) (fun _ => mM o y) t ?_ ?_
    · intro k hk ih
      refine gl_iload_n dX1_digest_139 rfl ?_
      refine gl_aload_n dX1_digest_140 rfl ?_
      refine gl_get (k := 4) dX1_digest_141 rfl (rfl : vwCl[1]? = some (RX1, TX1, 21)) in_X1 (by decide) q1024 rfl ?_
      refine gl_iconst (v := nI 2) dX1_digest_144 (by decide) ?_
      refine gl_iald (j := 2) dX1_digest_145 rfl rfl (by omega) ?_
      refine gl_icmp_ge (tgt := 172) dX1_digest_146 (by decide) (fun h => absurd h ((by rw [hL.tk]; exact nI_ge hk (by omega)))) (fun _ => ?_)
      refine gl_ldc2 (v := 31) q1432 dX1_digest_149 ?_
      refine gl_lload_n dX1_digest_152 rfl ?_
      refine gl_lmul dX1_digest_153 ?_
      refine gl_aload_n dX1_digest_154 rfl ?_
      refine gl_get (k := 4) dX1_digest_155 rfl (rfl : vwCl[1]? = some (RX1, TX1, 21)) in_X1 (by decide) q1024 rfl ?_
      refine gl_bipush (v := nI 73) dX1_digest_158 (by decide) ?_
      refine gl_iload_n dX1_digest_160 rfl ?_
      refine gl_iadd dX1_digest_161 ?_
      refine gl_iald (j := (73 + k)) dX1_digest_162 rfl (by simp only [nI_add, nI_mul]) (by omega) ?_
      refine gl_i2l dX1_digest_163 ?_
      refine gl_ladd dX1_digest_164 ?_
      refine gl_lstore_n dX1_digest_165 rfl rfl ?_
      refine gl_iinc (v := (nI (k + 1))) dX1_digest_166 rfl (nI_1 _) rfl rfl ?_
      refine gl_goto (tgt := 139) dX1_digest_169 (by decide) ?_
      exact ih
    · refine gl_iload_n dX1_digest_139 rfl ?_
      refine gl_aload_n dX1_digest_140 rfl ?_
      refine gl_get (k := 4) dX1_digest_141 rfl (rfl : vwCl[1]? = some (RX1, TX1, 21)) in_X1 (by decide) q1024 rfl ?_
      refine gl_iconst (v := nI 2) dX1_digest_144 (by decide) ?_
      refine gl_iald (j := 2) dX1_digest_145 rfl rfl (by omega) ?_
      refine gl_icmp_ge (tgt := 172) dX1_digest_146 (by decide) (fun _ => ?_) (fun h => absurd ((by rw [hL.tk]; exact nI_le (Nat.le_refl _) (by omega))) h)
      refine gl_drop 3 ?_
      exact s5 _ hh
  have s3 : ∀ h, V = dg7 y (dg6 y (dg5 y (dg4 y t (dg3 y m h)))) → GL gX1_digest (rm (L + 14) 0 0) (Rt (some (.long V)) (mM o y)) 0 0 80 [some (.ref 18), some (.long h), none, none, none] [] (mM o y) := by
    intro h hh
    refine gl_iconst (v := nI 0) dX1_digest_80 (by decide) ?_
    refine gl_istore_n dX1_digest_81 rfl rfl ?_
    refine gl_loop (fun q => [some (.ref 18), some (.long (mx2 h (fun q k => y.2.2 23 (31 + 7 * k + q)) q)), none, some (.int (nI q)), none]) (fun _ => mM o y) m ?_ ?_
    · intro q hq ih
      refine gl_iload_n dX1_digest_82 rfl ?_
      refine gl_aload_n dX1_digest_83 rfl ?_
      refine gl_get (k := 4) dX1_digest_84 rfl (rfl : vwCl[1]? = some (RX1, TX1, 21)) in_X1 (by decide) q1024 rfl ?_
      refine gl_iconst (v := nI 1) dX1_digest_87 (by decide) ?_
      refine gl_iald (j := 1) dX1_digest_88 rfl rfl (by omega) ?_
      refine gl_icmp_ge (tgt := 137) dX1_digest_89 (by decide) (fun h => absurd h ((by rw [hL.q]; exact nI_ge hq (by omega)))) (fun _ => ?_)
      refine gl_iconst (v := nI 0) dX1_digest_92 (by decide) ?_
      refine gl_istore dX1_digest_93 rfl rfl ?_
      refine gl_loop (fun k => [some (.ref 18), some (.long (mxF (mx2 h (fun q k => y.2.2 23 (31 + 7 * k + q)) q) (fun k => y.2.2 23 (31 + 7 * k + q)) k)), none, some (.int (nI q)), some (.int (nI k))]) (fun _ => mM o y) 6 ?_ ?_
      · intro k hk ih2
        refine gl_iload dX1_digest_95 rfl ?_
        refine gl_bipush (v := nI 6) dX1_digest_97 (by decide) ?_
        refine gl_icmp_ge (tgt := 131) dX1_digest_99 (by decide) (fun h => absurd h (nI_ge hk (by omega))) (fun _ => ?_)
        refine gl_ldc2 (v := 31) q1432 dX1_digest_102 ?_
        refine gl_lload_n dX1_digest_105 rfl ?_
        refine gl_lmul dX1_digest_106 ?_
        refine gl_aload_n dX1_digest_107 rfl ?_
        refine gl_get (k := 4) dX1_digest_108 rfl (rfl : vwCl[1]? = some (RX1, TX1, 21)) in_X1 (by decide) q1024 rfl ?_
        refine gl_bipush (v := nI 31) dX1_digest_111 (by decide) ?_
        refine gl_bipush (v := nI 7) dX1_digest_113 (by decide) ?_
        refine gl_iload dX1_digest_115 rfl ?_
        refine gl_imul dX1_digest_117 ?_
        refine gl_iadd dX1_digest_118 ?_
        refine gl_iload_n dX1_digest_119 rfl ?_
        refine gl_iadd dX1_digest_120 ?_
        refine gl_iald (j := ((31 + (7 * k)) + q)) dX1_digest_121 rfl (by simp only [nI_add, nI_mul]) (by omega) ?_
        refine gl_i2l dX1_digest_122 ?_
        refine gl_ladd dX1_digest_123 ?_
        refine gl_lstore_n dX1_digest_124 rfl rfl ?_
        refine gl_iinc (v := (nI (k + 1))) dX1_digest_125 rfl (nI_1 _) rfl rfl ?_
        refine gl_goto (tgt := 95) dX1_digest_128 (by decide) ?_
        exact ih2
      · refine gl_iload dX1_digest_95 rfl ?_
        refine gl_bipush (v := nI 6) dX1_digest_97 (by decide) ?_
        refine gl_icmp_ge (tgt := 131) dX1_digest_99 (by decide) (fun _ => ?_) (fun h => absurd (nI_le (Nat.le_refl _) (by omega)) h)
        refine gl_iinc (v := (nI (q + 1))) dX1_digest_131 rfl (nI_1 _) rfl rfl ?_
        refine gl_goto (tgt := 82) dX1_digest_134 (by decide) ?_
        refine gl_drop 4 ?_
        exact ih
    · refine gl_iload_n dX1_digest_82 rfl ?_
      refine gl_aload_n dX1_digest_83 rfl ?_
      refine gl_get (k := 4) dX1_digest_84 rfl (rfl : vwCl[1]? = some (RX1, TX1, 21)) in_X1 (by decide) q1024 rfl ?_
      refine gl_iconst (v := nI 1) dX1_digest_87 (by decide) ?_
      refine gl_iald (j := 1) dX1_digest_88 rfl rfl (by omega) ?_
      refine gl_icmp_ge (tgt := 137) dX1_digest_89 (by decide) (fun _ => ?_) (fun h => absurd ((by rw [hL.q]; exact nI_le (Nat.le_refl _) (by omega))) h)
      refine gl_drop 3 ?_
      exact s4 _ hh
  have s2 : ∀ h, V = dg7 y (dg6 y (dg5 y (dg4 y t (dg3 y m (dg2 y n m h))))) → GL gX1_digest (rm (L + 14) 0 0) (Rt (some (.long V)) (mM o y)) 0 0 31 [some (.ref 18), some (.long h), none, none, none] [] (mM o y) := by
    intro h hh
    refine gl_iconst (v := nI 0) dX1_digest_31 (by decide) ?_
    refine gl_istore_n dX1_digest_32 rfl rfl ?_
    refine gl_loop (fun c => [some (.ref 18), some (.long (mx2 h (fun c k => toldC (y.2.2 23) m c (nI k)) c)), none, some (.int (nI c)), none]) (fun _ => mM o y) n ?_ ?_
    · intro c hc ih
      refine gl_iload_n dX1_digest_33 rfl ?_
      refine gl_aload_n dX1_digest_34 rfl ?_
      refine gl_get (k := 4) dX1_digest_35 rfl (rfl : vwCl[1]? = some (RX1, TX1, 21)) in_X1 (by decide) q1024 rfl ?_
      refine gl_iconst (v := nI 0) dX1_digest_38 (by decide) ?_
      refine gl_iald (j := 0) dX1_digest_39 rfl rfl (by omega) ?_
      refine gl_icmp_ge (tgt := 80) dX1_digest_40 (by decide) (fun h => absurd h ((by rw [hL.c]; exact nI_ge hc (by omega)))) (fun _ => ?_)
      refine gl_iconst (v := nI 0) dX1_digest_43 (by decide) ?_
      refine gl_istore dX1_digest_44 rfl rfl ?_
      refine gl_loop (fun k => [some (.ref 18), some (.long (mxF (mx2 h (fun c k => toldC (y.2.2 23) m c (nI k)) c) (fun k => toldC (y.2.2 23) m c (nI k)) k)), none, some (.int (nI c)), some (.int (nI k))]) (fun _ => mM o y) 6 ?_ ?_
      · intro k hk ih2
        refine gl_iload dX1_digest_46 rfl ?_
        refine gl_bipush (v := nI 6) dX1_digest_48 (by decide) ?_
        refine gl_icmp_ge (tgt := 74) dX1_digest_50 (by decide) (fun h => absurd h (nI_ge hk (by omega))) (fun _ => ?_)
        refine gl_ldc2 (v := 31) q1432 dX1_digest_53 ?_
        refine gl_lload_n dX1_digest_56 rfl ?_
        refine gl_lmul dX1_digest_57 ?_
        refine gl_aload_n dX1_digest_58 rfl ?_
        refine gl_iload_n dX1_digest_59 rfl ?_
        refine gl_iload dX1_digest_60 rfl ?_
        refine gl_callV (m_toldCard L o y hL c (nI k) (by omega)) dX1_digest_62 q1180 q1182 qs52 q75 q1183 rfl hX1_toldCard rfl (rfl : vwCl[1]? = some (RX1, TX1, 21)) rfl rfl (rmOk (by omega) rfl) ⟨by first | exact Nat.le_refl _ | exact Nat.zero_le _ | decide | (dsimp only [rm]; omega), by first | exact Nat.le_refl _ | exact Nat.zero_le _ | decide | (dsimp only [rm]; omega)⟩ (rt1 ?_)
        refine gl_i2l dX1_digest_65 ?_
        refine gl_ladd dX1_digest_66 ?_
        refine gl_lstore_n dX1_digest_67 rfl rfl ?_
        refine gl_iinc (v := (nI (k + 1))) dX1_digest_68 rfl (nI_1 _) rfl rfl ?_
        refine gl_goto (tgt := 46) dX1_digest_71 (by decide) ?_
        exact ih2
      · refine gl_iload dX1_digest_46 rfl ?_
        refine gl_bipush (v := nI 6) dX1_digest_48 (by decide) ?_
        refine gl_icmp_ge (tgt := 74) dX1_digest_50 (by decide) (fun _ => ?_) (fun h => absurd (nI_le (Nat.le_refl _) (by omega)) h)
        refine gl_iinc (v := (nI (c + 1))) dX1_digest_74 rfl (nI_1 _) rfl rfl ?_
        refine gl_goto (tgt := 33) dX1_digest_77 (by decide) ?_
        refine gl_drop 4 ?_
        exact ih
    · refine gl_iload_n dX1_digest_33 rfl ?_
      refine gl_aload_n dX1_digest_34 rfl ?_
      refine gl_get (k := 4) dX1_digest_35 rfl (rfl : vwCl[1]? = some (RX1, TX1, 21)) in_X1 (by decide) q1024 rfl ?_
      refine gl_iconst (v := nI 0) dX1_digest_38 (by decide) ?_
      refine gl_iald (j := 0) dX1_digest_39 rfl rfl (by omega) ?_
      refine gl_icmp_ge (tgt := 80) dX1_digest_40 (by decide) (fun _ => ?_) (fun h => absurd ((by rw [hL.c]; exact nI_le (Nat.le_refl _) (by omega))) h)
      refine gl_drop 3 ?_
      exact s3 _ hh
  refine gl_ldc2 (v := 17) q1431 dX1_digest_0 ?_
  refine gl_lstore_n dX1_digest_3 rfl rfl ?_
  refine gl_iconst (v := nI 0) dX1_digest_4 (by decide) ?_
  refine gl_istore_n dX1_digest_5 rfl rfl ?_
  refine gl_loop (fun k => [some (.ref 18), some (.long (mxF 17 (fun k => ctI y n m k) k)), none, some (.int (nI k)), none]) (fun _ => mM o y) 9 ?_ ?_
  · intro k hk ih
    refine gl_iload_n dX1_digest_6 rfl ?_
    refine gl_bipush (v := nI 9) dX1_digest_7 (by decide) ?_
    refine gl_icmp_ge (tgt := 31) dX1_digest_9 (by decide) (fun h => absurd h (nI_ge hk (by omega))) (fun _ => ?_)
    refine gl_ldc2 (v := 31) q1432 dX1_digest_12 ?_
    refine gl_lload_n dX1_digest_15 rfl ?_
    refine gl_lmul dX1_digest_16 ?_
    refine gl_aload_n dX1_digest_17 rfl ?_
    refine gl_iload_n dX1_digest_18 rfl ?_
    refine gl_callV (m_counted L o y hL k hk) dX1_digest_19 q1415 q1417 qs72 q75 q1418 rfl hX1_counted rfl (rfl : vwCl[1]? = some (RX1, TX1, 21)) rfl rfl (rmOk (by omega) rfl) ⟨by first | exact Nat.le_refl _ | exact Nat.zero_le _ | decide | (dsimp only [rm]; omega), by first | exact Nat.le_refl _ | exact Nat.zero_le _ | decide | (dsimp only [rm]; omega)⟩ (rt1 ?_)
    refine gl_i2l dX1_digest_22 ?_
    refine gl_ladd dX1_digest_23 ?_
    refine gl_lstore_n dX1_digest_24 rfl rfl ?_
    refine gl_iinc (v := (nI (k + 1))) dX1_digest_25 rfl (nI_1 _) rfl rfl ?_
    refine gl_goto (tgt := 6) dX1_digest_28 (by decide) ?_
    exact ih
  · refine gl_iload_n dX1_digest_6 rfl ?_
    refine gl_bipush (v := nI 9) dX1_digest_7 (by decide) ?_
    refine gl_icmp_ge (tgt := 31) dX1_digest_9 (by decide) (fun _ => ?_) (fun h => absurd (nI_le (Nat.le_refl _) (by omega)) h)
    refine gl_drop 3 ?_
    exact s2 _ hV.symm
end MN

