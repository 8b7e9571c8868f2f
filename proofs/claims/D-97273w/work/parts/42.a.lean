/-! finds: the model -/
set_option maxRecDepth 100000
def vN (v : Int32) : Nat := v.toBitVec.toNat
theorem bit_vN (v : Int32) (i : Nat) : bit v i = (vN v).testBit i := rfl
theorem and_nI {a : Nat} (v : Int32) : nI a &&& v = nI (a &&& vN v) := by
  apply bit_ext
  intro i hi
  rw [bit_and, bit_nI _ _ hi, bit_nI _ _ hi, Nat.testBit_and, bit_vN]
/-- questions that part a set: first, least -/
def fiY (w : Nat → Int32) (n a q : Nat) : Nat := a &&& vN (fsI w n q)
def fiN (w : Nat → Int32) (n a q : Nat) : Nat := a &&& vN (nI (fiY w n a q) ^^^ (-1))
def fiB (w A : Nat → Int32) (n a q : Nat) : Int32 := nI 1 + (if A (fiN w n a q) < A (fiY w n a q) then A (fiY w n a q) else A (fiN w n a q))
def fiS (w A : Nat → Int32) (n a : Nat) : Nat → Int32 × Int32
  | 0 => (-9, nI 99)
  | q + 1 => if (¬ fiY w n a q = 0 ∧ ¬ fiN w n a q = 0) ∧ fiB w A n a q < (fiS w A n a q).2 then (nI q, fiB w A n a q) else fiS w A n a q
def fnR (w A : Nat → Int32) (n m a : Nat) : Int32 × Int32 := if oneB (nI a) then (-9, nI 0) else fiS w A n a m
def fnS (w : Nat → Int32) (n m : Nat) (A F : Nat → Int32) : Nat → (Nat → Int32) × (Nat → Int32)
  | 0 => (A, F)
  | k + 1 => (upd (fnS w n m A F k).1 (k + 1) (fnR w (fnS w n m A F k).1 n m (k + 1)).2, upd (fnS w n m A F k).2 (k + 1) (fnR w (fnS w n m A F k).1 n m (k + 1)).1)
def fdS (y : MY) (u : (Nat → Int32) × (Nat → Int32)) : MY := sA (sA y 31 u.1) 32 u.2
def fdU (y : MY) (n m k : Nat) : (Nat → Int32) × (Nat → Int32) := fnS (y.2.2 23) n m (y.2.2 31) (y.2.2 32) k
def sp_finds (y : MY) (n m : Nat) (set : Int32) : Int32 × MY := if inR set 1 (allC n) then (if (fdU y n m (ix set)).1 (ix set) < nI 99 then ((fdU y n m (ix set)).1 (ix set), sI (fdS y (fdU y n m (ix set))) 7 ((fdU y n m (ix set)).2 (ix set))) else (-9, fdS y (fdU y n m (ix set)))) else (-1, y)
theorem allC_n : ∀ n, n ≤ 7 → allC n = nI (2 ^ n - 1) := by decide
section MF
variable (L : Nat) (o : OY) (y : MY) {n m t : Nat}
/-- one set's questions gone through -/
theorem m_find1 (hL : Lb (y.2.2 23) n m t) (K : Option Value → Mem → Prop) (S a : Nat) (ha : a < 128) (h0 : 0 < a) (u : (Nat → Int32) × (Nat → Int32)) (kk : ∀ r, r = fnR (y.2.2 23) u.1 n m a → GL gX1_finds (rm (L + 15) 0 0) K 0 0 168 [some (.ref 18), some (.int (nI S)), some (.int (nI a)), some (.int r.2), some (.int r.1), none, none, none, none] [] (mM o (fdS y u))) : GL gX1_finds (rm (L + 15) 0 0) K 0 0 29 [some (.ref 18), some (.int (nI S)), some (.int (nI a)), none, none, none, none, none, none] [] (mM o (fdS y u)) := by
  have h7 := hL.c7
  have h7q := hL.q7
  refine gl_iload_n dX1_finds_29 rfl ?_
  refine gl_callS (m_isOne L _ _) dX1_finds_30 q1346 q1347 q75 q1348 rfl hX1_isOne rfl rfl (rmOk (by omega) rfl) ⟨by first | exact Nat.le_refl _ | exact Nat.zero_le _ | decide | (dsimp only [rm]; omega), by first | exact Nat.le_refl _ | exact Nat.zero_le _ | decide | (dsimp only [rm]; omega)⟩ (rt1 ?_)
  refine gl_if_eq (tgt := 40) dX1_finds_33 (by decide) (fun h33 => ?_) (fun h33 => ?_)
  · have h1 := bI_fa h33
    have kk := kk _ rfl
    unfold fnR at kk
    rw [if_neg (by simp [h1])] at kk
    refine gl_bipush (v := nI 99) dX1_finds_40 (by decide) ?_
    refine gl_istore_n dX1_finds_42 rfl rfl ?_
    refine gl_bipush (v := (-9)) dX1_finds_43 (by decide) ?_
    refine gl_istore dX1_finds_45 rfl rfl ?_
    refine gl_iconst (v := nI 0) dX1_finds_47 (by decide) ?_
    refine gl_istore dX1_finds_48 rfl rfl ?_
    refine gl_loop (fun q => [some (.ref 18), some (.int (nI S)), some (.int (nI a)), some (.int (fiS (y.2.2 23) u.1 n a q).2), some (.int (fiS (y.2.2 23) u.1 n a q).1), some (.int (nI q)), none, none, none]) (fun _ => mM o (fdS y u)) m ?_ ?_
    · intro q hq ih
      have hy : fiY (y.2.2 23) n a q ≤ a := Nat.and_le_left
      have hno : fiN (y.2.2 23) n a q ≤ a := Nat.and_le_left
      have ef : sp_fits (fdS y u) n (nI q) = (fsI (y.2.2 23) n q, fdS y u) := by
        unfold sp_fits
        rw [if_pos (by show inR (nI q) 0 (y.2.2 23 1 - 1) = true; rw [hL.q]; exact inR_k (by omega) hq), ix_nI (show q < 100 by omega)]
        rfl
      refine gl_iload dX1_finds_50 rfl ?_
      refine gl_aload_n dX1_finds_52 rfl ?_
      refine gl_get (k := 4) dX1_finds_53 rfl (rfl : vwCl[1]? = some (RX1, TX1, 21)) in_X1 (by decide) q1024 rfl ?_
      refine gl_iconst (v := nI 1) dX1_finds_56 (by decide) ?_
      refine gl_iald (j := 1) dX1_finds_57 rfl rfl (by omega) ?_
      refine gl_icmp_ge (tgt := 168) dX1_finds_58 (by decide) (fun h => absurd h ((by show ¬ y.2.2 23 1 ≤ nI q; rw [hL.q]; exact nI_ge hq (by omega)))) (fun _ => ?_)
      refine gl_iload_n dX1_finds_61 rfl ?_
      refine gl_callS (m_isOne L _ _) dX1_finds_62 q1346 q1347 q75 q1348 rfl hX1_isOne rfl rfl (rmOk (by omega) rfl) ⟨by first | exact Nat.le_refl _ | exact Nat.zero_le _ | decide | (dsimp only [rm]; omega), by first | exact Nat.le_refl _ | exact Nat.zero_le _ | decide | (dsimp only [rm]; omega)⟩ (rt1 ?_)
      refine gl_if_ne (tgt := 168) dX1_finds_65 (by decide) (fun h => absurd (by rw [h1]; rfl) h) (fun _ => ?_)
      refine gl_iload_n dX1_finds_68 rfl ?_
      refine gl_aload_n dX1_finds_69 rfl ?_
      refine gl_iload dX1_finds_70 rfl ?_
      refine gl_callV (m_fits L o (fdS y u) hL (nI q)) dX1_finds_72 q1349 q1233 q1234 q75 q1235 rfl hX1_fits rfl (rfl : vwCl[1]? = some (RX1, TX1, 21)) rfl rfl (rmOk (by omega) rfl) ⟨by first | exact Nat.le_refl _ | exact Nat.zero_le _ | decide | (dsimp only [rm]; omega), by first | exact Nat.le_refl _ | exact Nat.zero_le _ | decide | (dsimp only [rm]; omega)⟩ ?_
      rw [ef]
      refine rtP ?_
      refine gl_iand dX1_finds_75 ?_
      refine gl_top (w := .int (nI (fiY (y.2.2 23) n a q))) (by rw [and_nI]; rfl) ?_
      refine gl_istore dX1_finds_76 rfl rfl ?_
      refine gl_iload_n dX1_finds_78 rfl ?_
      refine gl_iload dX1_finds_79 rfl ?_
      refine gl_iconst (v := (-1)) dX1_finds_81 (by decide) ?_
      refine gl_ixor dX1_finds_82 ?_
      refine gl_iand dX1_finds_83 ?_
      refine gl_top (w := .int (nI (fiN (y.2.2 23) n a q))) (by rw [and_nI]; rfl) ?_
      rw [show fiS (y.2.2 23) u.1 n a (q + 1) = if (¬ fiY (y.2.2 23) n a q = 0 ∧ ¬ fiN (y.2.2 23) n a q = 0) ∧ fiB (y.2.2 23) u.1 n a q < (fiS (y.2.2 23) u.1 n a q).2 then (nI q, fiB (y.2.2 23) u.1 n a q) else fiS (y.2.2 23) u.1 n a q from rfl] at ih
      unfold fiB at ih
      clear kk
      generalize fiY (y.2.2 23) n a q = Y at hy ih ⊢
      generalize fiN (y.2.2 23) n a q = Z at hno ih ⊢
      generalize fiS (y.2.2 23) u.1 n a q = v at ih ⊢
      have tl : ∀ b : Int32, (¬ Y = 0 ∧ ¬ Z = 0) → b = (if u.1 Z < u.1 Y then u.1 Y else u.1 Z) → GL gX1_finds (rm (L + 15) 0 0) K 0 0 131 [some (.ref 18), some (.int (nI S)), some (.int (nI a)), some (.int v.2), some (.int v.1), some (.int (nI q)), some (.int (nI Y)), some (.int (nI Z)), none] [.int b, .int (nI 1)] (mM o (fdS y u)) := by
        intro b hYZ hb
        rw [← hb] at ih
        refine gl_iadd dX1_finds_131 ?_
        refine gl_istore dX1_finds_132 rfl rfl ?_
        refine gl_iload dX1_finds_134 rfl ?_
        refine gl_iload_n dX1_finds_136 rfl ?_
        refine gl_icmp_ge (tgt := 145) dX1_finds_137 (by decide) (fun h137 => ?_) (fun h137 => ?_)
        · have z : ¬ nI 1 + b < v.2 := k2_nlt h137
          rw [if_neg (fun q => z q.2)] at ih
          refine gl_iload dX1_finds_145 rfl ?_
          refine gl_istore dX1_finds_147 rfl rfl ?_
          refine gl_iload dX1_finds_149 rfl ?_
          refine gl_iload_n dX1_finds_151 rfl ?_
          refine gl_icmp_ge (tgt := 160) dX1_finds_152 (by decide) (fun _ => ?_) (fun h => absurd (h137) h)
          refine gl_iload_n dX1_finds_160 rfl ?_
          refine gl_istore_n dX1_finds_161 rfl rfl ?_
          refine gl_iinc (v := (nI (q + 1))) dX1_finds_162 rfl (nI_1 _) rfl rfl ?_
          refine gl_goto (tgt := 50) dX1_finds_165 (by decide) ?_
          refine gl_drop 6 (gl_drop 7 (gl_drop 8 ?_))
          exact ih
        · have z : nI 1 + b < v.2 := k2_lt h137
          rw [if_pos ⟨hYZ, z⟩] at ih
          refine gl_iload dX1_finds_140 rfl ?_
          refine gl_goto (tgt := 147) dX1_finds_142 (by decide) ?_
          refine gl_istore dX1_finds_147 rfl rfl ?_
          refine gl_iload dX1_finds_149 rfl ?_
          refine gl_iload_n dX1_finds_151 rfl ?_
          refine gl_icmp_ge (tgt := 160) dX1_finds_152 (by decide) (fun h => absurd h (h137)) (fun _ => ?_)
          refine gl_iload dX1_finds_155 rfl ?_
          refine gl_goto (tgt := 161) dX1_finds_157 (by decide) ?_
          refine gl_istore_n dX1_finds_161 rfl rfl ?_
          refine gl_iinc (v := (nI (q + 1))) dX1_finds_162 rfl (nI_1 _) rfl rfl ?_
          refine gl_goto (tgt := 50) dX1_finds_165 (by decide) ?_
          refine gl_drop 6 (gl_drop 7 (gl_drop 8 ?_))
          exact ih
      refine gl_istore dX1_finds_84 rfl rfl ?_
      refine gl_iload dX1_finds_86 rfl ?_
      refine gl_if_eq (tgt := 162) dX1_finds_88 (by decide) (fun h88 => ?_) (fun h88 => ?_)
      · have z : Y = 0 := (nI_eq (b := 0) (by omega) (by omega)).mp h88
        rw [if_neg (fun q => q.1.1 z)] at ih
        refine gl_iinc (v := (nI (q + 1))) dX1_finds_162 rfl (nI_1 _) rfl rfl ?_
        refine gl_goto (tgt := 50) dX1_finds_165 (by decide) ?_
        refine gl_drop 6 (gl_drop 7 ?_)
        exact ih
      · have z : ¬ Y = 0 := fun q => h88 (by rw [q]; rfl)
        refine gl_iload dX1_finds_91 rfl ?_
        refine gl_if_eq (tgt := 162) dX1_finds_93 (by decide) (fun h93 => ?_) (fun h93 => ?_)
        · have z2 : Z = 0 := (nI_eq (b := 0) (by omega) (by omega)).mp h93
          rw [if_neg (fun q => q.1.2 z2)] at ih
          refine gl_iinc (v := (nI (q + 1))) dX1_finds_162 rfl (nI_1 _) rfl rfl ?_
          refine gl_goto (tgt := 50) dX1_finds_165 (by decide) ?_
          refine gl_drop 6 (gl_drop 7 ?_)
          exact ih
        · have z2 : ¬ Z = 0 := fun q => h93 (by rw [q]; rfl)
          refine gl_iconst (v := nI 1) dX1_finds_96 (by decide) ?_
          refine gl_aload_n dX1_finds_97 rfl ?_
          refine gl_get (k := 19) dX1_finds_98 rfl (rfl : vwCl[1]? = some (RX1, TX1, 21)) in_X1 (by decide) q1039 rfl ?_
          refine gl_iload dX1_finds_101 rfl ?_
          refine gl_iald (j := Y) dX1_finds_103 rfl rfl (by omega) ?_
          refine gl_aload_n dX1_finds_104 rfl ?_
          refine gl_get (k := 19) dX1_finds_105 rfl (rfl : vwCl[1]? = some (RX1, TX1, 21)) in_X1 (by decide) q1039 rfl ?_
          refine gl_iload dX1_finds_108 rfl ?_
          refine gl_iald (j := Z) dX1_finds_110 rfl rfl (by omega) ?_
          refine gl_icmp_le (tgt := 124) dX1_finds_111 (by decide) (fun h111 => ?_) (fun h111 => ?_)
          · refine gl_aload_n dX1_finds_124 rfl ?_
            refine gl_get (k := 19) dX1_finds_125 rfl (rfl : vwCl[1]? = some (RX1, TX1, 21)) in_X1 (by decide) q1039 rfl ?_
            refine gl_iload dX1_finds_128 rfl ?_
            refine gl_iald (j := Z) dX1_finds_130 rfl rfl (by omega) ?_
            exact tl _ ⟨z, z2⟩ (by rw [if_neg (show ¬ u.1 Z < u.1 Y from k2_nlt h111)]; rfl)
          · refine gl_aload_n dX1_finds_114 rfl ?_
            refine gl_get (k := 19) dX1_finds_115 rfl (rfl : vwCl[1]? = some (RX1, TX1, 21)) in_X1 (by decide) q1039 rfl ?_
            refine gl_iload dX1_finds_118 rfl ?_
            refine gl_iald (j := Y) dX1_finds_120 rfl rfl (by omega) ?_
            refine gl_goto (tgt := 131) dX1_finds_121 (by decide) ?_
            exact tl _ ⟨z, z2⟩ (by rw [if_pos (show u.1 Z < u.1 Y from k2_lt h111)]; rfl)
    · refine gl_iload dX1_finds_50 rfl ?_
      refine gl_aload_n dX1_finds_52 rfl ?_
      refine gl_get (k := 4) dX1_finds_53 rfl (rfl : vwCl[1]? = some (RX1, TX1, 21)) in_X1 (by decide) q1024 rfl ?_
      refine gl_iconst (v := nI 1) dX1_finds_56 (by decide) ?_
      refine gl_iald (j := 1) dX1_finds_57 rfl rfl (by omega) ?_
      refine gl_icmp_ge (tgt := 168) dX1_finds_58 (by decide) (fun _ => ?_) (fun h => absurd ((by show y.2.2 23 1 ≤ nI m; rw [hL.q]; exact nI_le (Nat.le_refl _) (by omega))) h)
      refine gl_drop 5 ?_
      exact kk
  · have h1 := bI_tr h33
    have kk := kk _ rfl
    unfold fnR at kk
    rw [if_pos h1] at kk
    refine gl_iconst (v := nI 0) dX1_finds_36 (by decide) ?_
    refine gl_goto (tgt := 42) dX1_finds_37 (by decide) ?_
    refine gl_istore_n dX1_finds_42 rfl rfl ?_
    refine gl_bipush (v := (-9)) dX1_finds_43 (by decide) ?_
    refine gl_istore dX1_finds_45 rfl rfl ?_
    refine gl_iconst (v := nI 0) dX1_finds_47 (by decide) ?_
    refine gl_istore dX1_finds_48 rfl rfl ?_
    refine gl_iload dX1_finds_50 rfl ?_
    refine gl_aload_n dX1_finds_52 rfl ?_
    refine gl_get (k := 4) dX1_finds_53 rfl (rfl : vwCl[1]? = some (RX1, TX1, 21)) in_X1 (by decide) q1024 rfl ?_
    refine gl_iconst (v := nI 1) dX1_finds_56 (by decide) ?_
    refine gl_iald (j := 1) dX1_finds_57 rfl rfl (by omega) ?_
    refine gl_icmp_ge (tgt := 168) dX1_finds_58 (by decide) (fun h58 => ?_) (fun h58 => ?_)
    · refine gl_drop 5 ?_
      exact kk
    · refine gl_iload_n dX1_finds_61 rfl ?_
      refine gl_callS (m_isOne L _ _) dX1_finds_62 q1346 q1347 q75 q1348 rfl hX1_isOne rfl rfl (rmOk (by omega) rfl) ⟨by first | exact Nat.le_refl _ | exact Nat.zero_le _ | decide | (dsimp only [rm]; omega), by first | exact Nat.le_refl _ | exact Nat.zero_le _ | decide | (dsimp only [rm]; omega)⟩ (rt1 ?_)
      refine gl_if_ne (tgt := 168) dX1_finds_65 (by decide) (fun _ => ?_) (fun h => absurd h (by rw [h1]; decide))
      refine gl_drop 5 ?_
      exact kk
theorem m_finds (hL : Lb (y.2.2 23) n m t) (set : Int32) : Ct yX1_finds gX1_finds (L + 15) 0 0 [.ref 18, .int set] (mM o y) (RtP o (sp_finds y n m set)) := by
  refine Ct.of rfl rfl rfl rfl rfl ?_
  have h7 := hL.c7
  refine gl_iload_n dX1_finds_0 rfl ?_
  refine gl_i2l dX1_finds_1 ?_
  refine gl_lconst (v := 1) dX1_finds_2 (by decide) ?_
  refine gl_iconst (v := nI 1) dX1_finds_3 (by decide) ?_
  refine gl_aload_n dX1_finds_4 rfl ?_
  refine gl_get (k := 4) dX1_finds_5 rfl (rfl : vwCl[1]? = some (RX1, TX1, 21)) in_X1 (by decide) q1024 rfl ?_
  refine gl_iconst (v := nI 0) dX1_finds_8 (by decide) ?_
  refine gl_iald (j := 0) dX1_finds_9 rfl rfl (by omega) ?_
  rw [hL.c]
  refine gl_ishl dX1_finds_10 ?_
  refine gl_iconst (v := nI 1) dX1_finds_11 (by decide) ?_
  refine gl_isub dX1_finds_12 ?_
  refine gl_i2l dX1_finds_13 ?_
  refine gl_callS (m_in_i L (mM o y) set 1 (allC n) rfl rfl) dX1_finds_14 q1093 q1094 q75 q1095 rfl hX1_in rfl rfl (rmOk (by omega) rfl) ⟨by first | exact Nat.le_refl _ | exact Nat.zero_le _ | decide | (dsimp only [rm]; omega), by first | exact Nat.le_refl _ | exact Nat.zero_le _ | decide | (dsimp only [rm]; omega)⟩ (rt1 ?_)
  refine gl_if_ne (tgt := 22) dX1_finds_17 (by decide) (fun h17 => ?_) (fun h17 => ?_)
  · have hr := bI_tr h17
    unfold sp_finds
    rw [if_pos hr]
    rw [allC_n n h7] at hr
    have hp : 2 ^ n ≤ 2 ^ 7 := Nat.pow_le_pow_right (by omega) h7
    obtain ⟨S, hS1, hS2, rfl⟩ := inR_nat (a := 1) (by omega) (by omega) hr
    rw [show ix (nI S) = S from nI_clamp (by omega)]
    refine gl_iconst (v := nI 1) dX1_finds_22 (by decide) ?_
    refine gl_istore_n dX1_finds_23 rfl rfl ?_
    have base : ∀ u, u = fdU y n m S → GL gX1_finds (rm (L + 15) 0 0) (RtP o (if u.1 S < nI 99 then (u.1 S, sI (fdS y u) 7 (u.2 S)) else (-9, fdS y u))) 0 0 24 [some (.ref 18), some (.int (nI S)), some (.int (nI (S + 1))), none, none, none, none, none, none] [] (mM o (fdS y u)) := by
      intro u _
      refine gl_iload_n dX1_finds_24 rfl ?_
      refine gl_iload_n dX1_finds_25 rfl ?_
      refine gl_icmp_gt (tgt := 189) dX1_finds_26 (by decide) (fun _ => ?_) (fun h => absurd (nI_lt (by omega) (by omega)) h)
      refine gl_aload_n dX1_finds_189 rfl ?_
      refine gl_get (k := 19) dX1_finds_190 rfl (rfl : vwCl[1]? = some (RX1, TX1, 21)) in_X1 (by decide) q1039 rfl ?_
      refine gl_iload_n dX1_finds_193 rfl ?_
      refine gl_iald (j := S) dX1_finds_194 rfl rfl (by omega) ?_
      refine gl_bipush (v := nI 99) dX1_finds_195 (by decide) ?_
      refine gl_icmp_lt (tgt := 203) dX1_finds_197 (by decide) (fun h197 => ?_) (fun h197 => ?_)
      · rw [if_pos (show u.1 S < nI 99 from h197)]
        refine gl_aload_n dX1_finds_203 rfl ?_
        refine gl_aload_n dX1_finds_204 rfl ?_
        refine gl_get (k := 20) dX1_finds_205 rfl (rfl : vwCl[1]? = some (RX1, TX1, 21)) in_X1 (by decide) q1040 rfl ?_
        refine gl_iload_n dX1_finds_208 rfl ?_
        refine gl_iald (j := S) dX1_finds_209 rfl rfl (by omega) ?_
        refine gl_callV (m_tell L o (fdS y u) _) dX1_finds_210 q1104 q1106 qs45 q75 q1107 rfl hX1_tell rfl (rfl : vwCl[1]? = some (RX1, TX1, 21)) rfl rfl (rmOk (by omega) rfl) ⟨by first | exact Nat.le_refl _ | exact Nat.zero_le _ | decide | (dsimp only [rm]; omega), by first | exact Nat.le_refl _ | exact Nat.zero_le _ | decide | (dsimp only [rm]; omega)⟩ (rt1 ?_)
        refine gl_istore_n dX1_finds_213 rfl rfl ?_
        refine gl_aload_n dX1_finds_214 rfl ?_
        refine gl_get (k := 19) dX1_finds_215 rfl (rfl : vwCl[1]? = some (RX1, TX1, 21)) in_X1 (by decide) q1039 rfl ?_
        refine gl_iload_n dX1_finds_218 rfl ?_
        refine gl_iald (j := S) dX1_finds_219 rfl rfl (by omega) ?_
        exact gl_iret dX1_finds_220 rfl ⟨rfl, rfl⟩
      · rw [if_neg (show ¬ u.1 S < nI 99 from h197)]
        refine gl_bipush (v := (-9)) dX1_finds_200 (by decide) ?_
        exact gl_iret dX1_finds_202 rfl ⟨rfl, rfl⟩
    have base := base _ rfl
    refine gl_mem (μ1 := mM o (fdS y (fdU y n m 0))) rfl ?_
    generalize hK : (if (fdU y n m S).1 S < nI 99 then ((fdU y n m S).1 S, sI (fdS y (fdU y n m S)) 7 ((fdU y n m S).2 S)) else (-9, fdS y (fdU y n m S))) = P at base ⊢
    refine gl_loop (fun k => [some (.ref 18), some (.int (nI S)), some (.int (nI (k + 1))), none, none, none, none, none, none]) (fun k => mM o (fdS y (fdU y n m k))) S ?_ base
    intro k hk ih
    refine gl_iload_n dX1_finds_24 rfl ?_
    refine gl_iload_n dX1_finds_25 rfl ?_
    refine gl_icmp_gt (tgt := 189) dX1_finds_26 (by decide) (fun h => absurd h (nI_nlt (by omega) (by omega))) (fun _ => ?_)
    refine m_find1 L o y hL _ S (k + 1) (by omega) (by omega) (fdU y n m k) ?_
    intro r hr
    refine gl_aload_n dX1_finds_168 rfl ?_
    refine gl_get (k := 19) dX1_finds_169 rfl (rfl : vwCl[1]? = some (RX1, TX1, 21)) in_X1 (by decide) q1039 rfl ?_
    refine gl_iload_n dX1_finds_172 rfl ?_
    refine gl_iload_n dX1_finds_173 rfl ?_
    refine gl_iast (j := (k+1)) dX1_finds_174 rfl (by simp only [nI_add, nI_mul]) (by omega) ?_
    refine gl_aload_n dX1_finds_175 rfl ?_
    refine gl_get (k := 20) dX1_finds_176 rfl (rfl : vwCl[1]? = some (RX1, TX1, 21)) in_X1 (by decide) q1040 rfl ?_
    refine gl_iload_n dX1_finds_179 rfl ?_
    refine gl_iload dX1_finds_180 rfl ?_
    refine gl_iast (j := (k+1)) dX1_finds_182 rfl (by simp only [nI_add, nI_mul]) (by omega) ?_
    refine gl_iinc (v := (nI ((k+1) + 1))) dX1_finds_183 rfl (nI_1 _) rfl rfl ?_
    refine gl_goto (tgt := 24) dX1_finds_186 (by decide) ?_
    refine gl_drop 3 (gl_drop 4 ?_)
    refine gl_mem ?_ ih
    rw [show fdU y n m (k + 1) = (upd (fdU y n m k).1 (k + 1) r.2, upd (fdU y n m k).2 (k + 1) r.1) by rw [hr]; rfl]
    rfl
  · unfold sp_finds
    rw [if_neg (by simp [bI_fa h17])]
    refine gl_iconst (v := (-1)) dX1_finds_20 (by decide) ?_
    exact gl_iret dX1_finds_21 rfl ⟨rfl, rfl⟩
end MF

