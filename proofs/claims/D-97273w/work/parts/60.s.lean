/-! bits counted; worlds, never, forged, habit -/
set_option maxRecDepth 100000
def ushr (x k : Int32) : Int32 := (x.toUInt32 >>> (k.toUInt32 &&& Int32.toUInt32 31)).toInt32
def bc1 (x : Int32) : Int32 := x - (ushr x (nI 1) &&& 1431655765)
def bc2 (x : Int32) : Int32 := (x &&& 858993459) + (ushr x (nI 2) &&& 858993459)
def bc3 (x : Int32) : Int32 := (x + ushr x (nI 4)) &&& 252645135
def bc4 (x : Int32) : Int32 := x + ushr x (nI 8)
def bc5 (x : Int32) : Int32 := x + ushr x (nI 16)
def bcE (x : Int32) : Int32 := bc5 (bc4 (bc3 (bc2 (bc1 x)))) &&& nI 63
theorem j_bc (L : Nat) (μ : Mem) (v : Int32) : Ct yJ11_bitCount gJ11_bitCount (L + 10) 0 0 [.int v] μ (Rt (some (.int (bcE v))) μ) := by
  refine Ct.ofF (by decide +kernel) rfl rfl rfl rfl ?_
  refine gl_iload_n dJ11_bitCount_0 rfl ?_
  refine gl_iload_n dJ11_bitCount_1 rfl ?_
  refine gl_iconst (v := nI 1) dJ11_bitCount_2 (by decide) ?_
  refine gl_iushr dJ11_bitCount_3 rfl ?_
  refine gl_ldc_w (v := 1431655765) q892 dJ11_bitCount_4 ?_
  refine gl_iand dJ11_bitCount_7 ?_
  refine gl_isub dJ11_bitCount_8 ?_
  refine gl_istore_n dJ11_bitCount_9 rfl rfl ?_
  refine gl_iload_n dJ11_bitCount_10 rfl ?_
  refine gl_ldc_w (v := 858993459) q893 dJ11_bitCount_11 ?_
  refine gl_iand dJ11_bitCount_14 ?_
  refine gl_iload_n dJ11_bitCount_15 rfl ?_
  refine gl_iconst (v := nI 2) dJ11_bitCount_16 (by decide) ?_
  refine gl_iushr dJ11_bitCount_17 rfl ?_
  refine gl_ldc_w (v := 858993459) q893 dJ11_bitCount_18 ?_
  refine gl_iand dJ11_bitCount_21 ?_
  refine gl_iadd dJ11_bitCount_22 ?_
  refine gl_istore_n dJ11_bitCount_23 rfl rfl ?_
  refine gl_iload_n dJ11_bitCount_24 rfl ?_
  refine gl_iload_n dJ11_bitCount_25 rfl ?_
  refine gl_iconst (v := nI 4) dJ11_bitCount_26 (by decide) ?_
  refine gl_iushr dJ11_bitCount_27 rfl ?_
  refine gl_iadd dJ11_bitCount_28 ?_
  refine gl_ldc_w (v := 252645135) q894 dJ11_bitCount_29 ?_
  refine gl_iand dJ11_bitCount_32 ?_
  refine gl_istore_n dJ11_bitCount_33 rfl rfl ?_
  refine gl_iload_n dJ11_bitCount_34 rfl ?_
  refine gl_iload_n dJ11_bitCount_35 rfl ?_
  refine gl_bipush (v := nI 8) dJ11_bitCount_36 (by decide) ?_
  refine gl_iushr dJ11_bitCount_38 rfl ?_
  refine gl_iadd dJ11_bitCount_39 ?_
  refine gl_istore_n dJ11_bitCount_40 rfl rfl ?_
  refine gl_iload_n dJ11_bitCount_41 rfl ?_
  refine gl_iload_n dJ11_bitCount_42 rfl ?_
  refine gl_bipush (v := nI 16) dJ11_bitCount_43 (by decide) ?_
  refine gl_iushr dJ11_bitCount_45 rfl ?_
  refine gl_iadd dJ11_bitCount_46 ?_
  refine gl_istore_n dJ11_bitCount_47 rfl rfl ?_
  refine gl_iload_n dJ11_bitCount_48 rfl ?_
  refine gl_bipush (v := nI 63) dJ11_bitCount_49 (by decide) ?_
  refine gl_iand dJ11_bitCount_51 ?_
  exact gl_iret dJ11_bitCount_52 rfl ⟨rfl, rfl⟩ (hc := by first | exact Nat.zero_le _ | (dsimp only [rm]; omega)) (hs := by first | exact Nat.zero_le _ | (dsimp only [rm]; omega))
def nz4 (n : Nat) (i : Int32) : Int32 := nI n + ushr i (nI 1)
def nz3 (n : Nat) (i : Int32) : Int32 := if i ≤ nI 4 then nz4 n i else nz4 (n + 2) (ushr i (nI 2))
def nz2 (n : Nat) (i : Int32) : Int32 := if i ≤ nI 16 then nz3 n i else nz3 (n + 4) (ushr i (nI 4))
def nz1 (n : Nat) (i : Int32) : Int32 := if i ≤ nI 256 then nz2 n i else nz2 (n + 8) (ushr i (nI 8))
def nz0 (n : Nat) (i : Int32) : Int32 := if i ≤ 65536 then nz1 n i else nz1 (n + 16) (ushr i (nI 16))
def nzI (v : Int32) : Int32 := (v ^^^ (-1)) &&& (v - nI 1)
def ntzE (v : Int32) : Int32 := if 0 < nzI v then nz0 1 (nzI v) else nzI v &&& nI 32
theorem j_ntz (L : Nat) (μ : Mem) (v : Int32) : Ct yJ11_numberOfTrailingZeros gJ11_numberOfTrailingZeros (L + 10) 0 0 [.int v] μ (Rt (some (.int (ntzE v))) μ) := by
  refine Ct.ofF (by decide +kernel) rfl rfl rfl rfl ?_
  refine gl_iload_n dJ11_numberOfTrailingZeros_0 rfl ?_
  refine gl_iconst (v := (-1)) dJ11_numberOfTrailingZeros_1 (by decide) ?_
  refine gl_ixor dJ11_numberOfTrailingZeros_2 ?_
  refine gl_iload_n dJ11_numberOfTrailingZeros_3 rfl ?_
  refine gl_iconst (v := nI 1) dJ11_numberOfTrailingZeros_4 (by decide) ?_
  refine gl_isub dJ11_numberOfTrailingZeros_5 ?_
  refine gl_iand dJ11_numberOfTrailingZeros_6 ?_
  unfold ntzE
  refine gl_top (w := .int (nzI v)) rfl ?_
  generalize nzI v = i
  refine gl_istore_n dJ11_numberOfTrailingZeros_7 rfl rfl ?_
  refine gl_iload_n dJ11_numberOfTrailingZeros_8 rfl ?_
  refine gl_if_gt (tgt := 17) dJ11_numberOfTrailingZeros_9 (by decide) (fun h9 => ?_) (fun h9 => ?_)
  · rw [if_pos h9]
    unfold nz0
    refine gl_iconst (v := nI 1) dJ11_numberOfTrailingZeros_17 (by decide) ?_
    refine gl_istore_n dJ11_numberOfTrailingZeros_18 rfl rfl ?_
    refine gl_iload_n dJ11_numberOfTrailingZeros_19 rfl ?_
    refine gl_ldc_w (v := 65536) q959 dJ11_numberOfTrailingZeros_20 ?_
    refine gl_icmp_le (tgt := 34) dJ11_numberOfTrailingZeros_23 (by decide) (fun h23 => ?_) (fun h23 => ?_)
    · rw [if_pos h23]
      unfold nz1
      refine gl_iload_n dJ11_numberOfTrailingZeros_34 rfl ?_
      refine gl_sipush (v := nI 256) dJ11_numberOfTrailingZeros_35 (by decide) ?_
      refine gl_icmp_le (tgt := 49) dJ11_numberOfTrailingZeros_38 (by decide) (fun h38 => ?_) (fun h38 => ?_)
      · refine gl_iload_n dJ11_numberOfTrailingZeros_49 rfl ?_
        refine gl_bipush (v := nI 16) dJ11_numberOfTrailingZeros_50 (by decide) ?_
        refine gl_icmp_le (tgt := 62) dJ11_numberOfTrailingZeros_52 (by decide) (fun h52 => ?_) (fun h52 => ?_)
        · refine gl_iload_n dJ11_numberOfTrailingZeros_62 rfl ?_
          refine gl_iconst (v := nI 4) dJ11_numberOfTrailingZeros_63 (by decide) ?_
          refine gl_icmp_le (tgt := 74) dJ11_numberOfTrailingZeros_64 (by decide) (fun h64 => ?_) (fun h64 => ?_)
          · refine gl_iload_n dJ11_numberOfTrailingZeros_74 rfl ?_
            refine gl_iload_n dJ11_numberOfTrailingZeros_75 rfl ?_
            refine gl_iconst (v := nI 1) dJ11_numberOfTrailingZeros_76 (by decide) ?_
            refine gl_iushr dJ11_numberOfTrailingZeros_77 rfl ?_
            refine gl_iadd dJ11_numberOfTrailingZeros_78 ?_
            exact gl_iret dJ11_numberOfTrailingZeros_79 rfl ⟨by unfold nz2 nz3 nz4 ushr; (try clear he he'); simp only [*, ↓reduceIte], rfl⟩ (hc := by first | exact Nat.zero_le _ | (dsimp only [rm]; omega)) (hs := by first | exact Nat.zero_le _ | (dsimp only [rm]; omega))
          · refine gl_iinc (v := (nI (1 + 2))) dJ11_numberOfTrailingZeros_67 rfl (nI_add _ 2) rfl rfl ?_
            refine gl_iload_n dJ11_numberOfTrailingZeros_70 rfl ?_
            refine gl_iconst (v := nI 2) dJ11_numberOfTrailingZeros_71 (by decide) ?_
            refine gl_iushr dJ11_numberOfTrailingZeros_72 rfl ?_
            refine gl_istore_n dJ11_numberOfTrailingZeros_73 rfl rfl ?_
            refine gl_iload_n dJ11_numberOfTrailingZeros_74 rfl ?_
            refine gl_iload_n dJ11_numberOfTrailingZeros_75 rfl ?_
            refine gl_iconst (v := nI 1) dJ11_numberOfTrailingZeros_76 (by decide) ?_
            refine gl_iushr dJ11_numberOfTrailingZeros_77 rfl ?_
            refine gl_iadd dJ11_numberOfTrailingZeros_78 ?_
            exact gl_iret dJ11_numberOfTrailingZeros_79 rfl ⟨by unfold nz2 nz3 nz4 ushr; (try clear he he'); simp only [*, ↓reduceIte], rfl⟩ (hc := by first | exact Nat.zero_le _ | (dsimp only [rm]; omega)) (hs := by first | exact Nat.zero_le _ | (dsimp only [rm]; omega))
        · refine gl_iinc (v := (nI (1 + 4))) dJ11_numberOfTrailingZeros_55 rfl (nI_add _ 4) rfl rfl ?_
          refine gl_iload_n dJ11_numberOfTrailingZeros_58 rfl ?_
          refine gl_iconst (v := nI 4) dJ11_numberOfTrailingZeros_59 (by decide) ?_
          refine gl_iushr dJ11_numberOfTrailingZeros_60 rfl ?_
          refine gl_istore_n dJ11_numberOfTrailingZeros_61 rfl rfl ?_
          refine gl_iload_n dJ11_numberOfTrailingZeros_62 rfl ?_
          refine gl_iconst (v := nI 4) dJ11_numberOfTrailingZeros_63 (by decide) ?_
          refine gl_icmp_le (tgt := 74) dJ11_numberOfTrailingZeros_64 (by decide) (fun h64 => ?_) (fun h64 => ?_)
          · refine gl_iload_n dJ11_numberOfTrailingZeros_74 rfl ?_
            refine gl_iload_n dJ11_numberOfTrailingZeros_75 rfl ?_
            refine gl_iconst (v := nI 1) dJ11_numberOfTrailingZeros_76 (by decide) ?_
            refine gl_iushr dJ11_numberOfTrailingZeros_77 rfl ?_
            refine gl_iadd dJ11_numberOfTrailingZeros_78 ?_
            exact gl_iret dJ11_numberOfTrailingZeros_79 rfl ⟨by unfold nz2 nz3 nz4 ushr; (try clear he he'); simp only [*, ↓reduceIte], rfl⟩ (hc := by first | exact Nat.zero_le _ | (dsimp only [rm]; omega)) (hs := by first | exact Nat.zero_le _ | (dsimp only [rm]; omega))
          · refine gl_iinc (v := (nI ((1 + 4) + 2))) dJ11_numberOfTrailingZeros_67 rfl (nI_add _ 2) rfl rfl ?_
            refine gl_iload_n dJ11_numberOfTrailingZeros_70 rfl ?_
            refine gl_iconst (v := nI 2) dJ11_numberOfTrailingZeros_71 (by decide) ?_
            refine gl_iushr dJ11_numberOfTrailingZeros_72 rfl ?_
            refine gl_istore_n dJ11_numberOfTrailingZeros_73 rfl rfl ?_
            refine gl_iload_n dJ11_numberOfTrailingZeros_74 rfl ?_
            refine gl_iload_n dJ11_numberOfTrailingZeros_75 rfl ?_
            refine gl_iconst (v := nI 1) dJ11_numberOfTrailingZeros_76 (by decide) ?_
            refine gl_iushr dJ11_numberOfTrailingZeros_77 rfl ?_
            refine gl_iadd dJ11_numberOfTrailingZeros_78 ?_
            exact gl_iret dJ11_numberOfTrailingZeros_79 rfl ⟨by unfold nz2 nz3 nz4 ushr; (try clear he he'); simp only [*, ↓reduceIte], rfl⟩ (hc := by first | exact Nat.zero_le _ | (dsimp only [rm]; omega)) (hs := by first | exact Nat.zero_le _ | (dsimp only [rm]; omega))
      · refine gl_iinc (v := (nI (1 + 8))) dJ11_numberOfTrailingZeros_41 rfl (nI_add _ 8) rfl rfl ?_
        refine gl_iload_n dJ11_numberOfTrailingZeros_44 rfl ?_
        refine gl_bipush (v := nI 8) dJ11_numberOfTrailingZeros_45 (by decide) ?_
        refine gl_iushr dJ11_numberOfTrailingZeros_47 rfl ?_
        refine gl_istore_n dJ11_numberOfTrailingZeros_48 rfl rfl ?_
        refine gl_iload_n dJ11_numberOfTrailingZeros_49 rfl ?_
        refine gl_bipush (v := nI 16) dJ11_numberOfTrailingZeros_50 (by decide) ?_
        refine gl_icmp_le (tgt := 62) dJ11_numberOfTrailingZeros_52 (by decide) (fun h52 => ?_) (fun h52 => ?_)
        · refine gl_iload_n dJ11_numberOfTrailingZeros_62 rfl ?_
          refine gl_iconst (v := nI 4) dJ11_numberOfTrailingZeros_63 (by decide) ?_
          refine gl_icmp_le (tgt := 74) dJ11_numberOfTrailingZeros_64 (by decide) (fun h64 => ?_) (fun h64 => ?_)
          · refine gl_iload_n dJ11_numberOfTrailingZeros_74 rfl ?_
            refine gl_iload_n dJ11_numberOfTrailingZeros_75 rfl ?_
            refine gl_iconst (v := nI 1) dJ11_numberOfTrailingZeros_76 (by decide) ?_
            refine gl_iushr dJ11_numberOfTrailingZeros_77 rfl ?_
            refine gl_iadd dJ11_numberOfTrailingZeros_78 ?_
            exact gl_iret dJ11_numberOfTrailingZeros_79 rfl ⟨by unfold nz2 nz3 nz4 ushr; (try clear he he'); simp only [*, ↓reduceIte], rfl⟩ (hc := by first | exact Nat.zero_le _ | (dsimp only [rm]; omega)) (hs := by first | exact Nat.zero_le _ | (dsimp only [rm]; omega))
          · refine gl_iinc (v := (nI ((1 + 8) + 2))) dJ11_numberOfTrailingZeros_67 rfl (nI_add _ 2) rfl rfl ?_
            refine gl_iload_n dJ11_numberOfTrailingZeros_70 rfl ?_
            refine gl_iconst (v := nI 2) dJ11_numberOfTrailingZeros_71 (by decide) ?_
            refine gl_iushr dJ11_numberOfTrailingZeros_72 rfl ?_
            refine gl_istore_n dJ11_numberOfTrailingZeros_73 rfl rfl ?_
            refine gl_iload_n dJ11_numberOfTrailingZeros_74 rfl ?_
            refine gl_iload_n dJ11_numberOfTrailingZeros_75 rfl ?_
            refine gl_iconst (v := nI 1) dJ11_numberOfTrailingZeros_76 (by decide) ?_
            refine gl_iushr dJ11_numberOfTrailingZeros_77 rfl ?_
            refine gl_iadd dJ11_numberOfTrailingZeros_78 ?_
            exact gl_iret dJ11_numberOfTrailingZeros_79 rfl ⟨by unfold nz2 nz3 nz4 ushr; (try clear he he'); simp only [*, ↓reduceIte], rfl⟩ (hc := by first | exact Nat.zero_le _ | (dsimp only [rm]; omega)) (hs := by first | exact Nat.zero_le _ | (dsimp only [rm]; omega))
        · refine gl_iinc (v := (nI ((1 + 8) + 4))) dJ11_numberOfTrailingZeros_55 rfl (nI_add _ 4) rfl rfl ?_
          refine gl_iload_n dJ11_numberOfTrailingZeros_58 rfl ?_
          refine gl_iconst (v := nI 4) dJ11_numberOfTrailingZeros_59 (by decide) ?_
          refine gl_iushr dJ11_numberOfTrailingZeros_60 rfl ?_
          refine gl_istore_n dJ11_numberOfTrailingZeros_61 rfl rfl ?_
          refine gl_iload_n dJ11_numberOfTrailingZeros_62 rfl ?_
          refine gl_iconst (v := nI 4) dJ11_numberOfTrailingZeros_63 (by decide) ?_
          refine gl_icmp_le (tgt := 74) dJ11_numberOfTrailingZeros_64 (by decide) (fun h64 => ?_) (fun h64 => ?_)
          · refine gl_iload_n dJ11_numberOfTrailingZeros_74 rfl ?_
            refine gl_iload_n dJ11_numberOfTrailingZeros_75 rfl ?_
            refine gl_iconst (v := nI 1) dJ11_numberOfTrailingZeros_76 (by decide) ?_
            refine gl_iushr dJ11_numberOfTrailingZeros_77 rfl ?_
            refine gl_iadd dJ11_numberOfTrailingZeros_78 ?_
            exact gl_iret dJ11_numberOfTrailingZeros_79 rfl ⟨by unfold nz2 nz3 nz4 ushr; (try clear he he'); simp only [*, ↓reduceIte], rfl⟩ (hc := by first | exact Nat.zero_le _ | (dsimp only [rm]; omega)) (hs := by first | exact Nat.zero_le _ | (dsimp only [rm]; omega))
          · refine gl_iinc (v := (nI (((1 + 8) + 4) + 2))) dJ11_numberOfTrailingZeros_67 rfl (nI_add _ 2) rfl rfl ?_
            refine gl_iload_n dJ11_numberOfTrailingZeros_70 rfl ?_
            refine gl_iconst (v := nI 2) dJ11_numberOfTrailingZeros_71 (by decide) ?_
            refine gl_iushr dJ11_numberOfTrailingZeros_72 rfl ?_
            refine gl_istore_n dJ11_numberOfTrailingZeros_73 rfl rfl ?_
            refine gl_iload_n dJ11_numberOfTrailingZeros_74 rfl ?_
            refine gl_iload_n dJ11_numberOfTrailingZeros_75 rfl ?_
            refine gl_iconst (v := nI 1) dJ11_numberOfTrailingZeros_76 (by decide) ?_
            refine gl_iushr dJ11_numberOfTrailingZeros_77 rfl ?_
            refine gl_iadd dJ11_numberOfTrailingZeros_78 ?_
            exact gl_iret dJ11_numberOfTrailingZeros_79 rfl ⟨by unfold nz2 nz3 nz4 ushr; (try clear he he'); simp only [*, ↓reduceIte], rfl⟩ (hc := by first | exact Nat.zero_le _ | (dsimp only [rm]; omega)) (hs := by first | exact Nat.zero_le _ | (dsimp only [rm]; omega))
    · rw [if_neg h23]
      unfold nz1
      refine gl_iinc (v := (nI (1 + 16))) dJ11_numberOfTrailingZeros_26 rfl (nI_add _ 16) rfl rfl ?_
      refine gl_iload_n dJ11_numberOfTrailingZeros_29 rfl ?_
      refine gl_bipush (v := nI 16) dJ11_numberOfTrailingZeros_30 (by decide) ?_
      refine gl_iushr dJ11_numberOfTrailingZeros_32 rfl ?_
      refine gl_istore_n dJ11_numberOfTrailingZeros_33 rfl rfl ?_
      generalize he : (i.toUInt32 >>> ((nI 16).toUInt32 &&& Int32.toUInt32 31)).toInt32 = i'
      have he' : ushr i (nI 16) = i' := he
      rw [he']
      refine gl_iload_n dJ11_numberOfTrailingZeros_34 rfl ?_
      refine gl_sipush (v := nI 256) dJ11_numberOfTrailingZeros_35 (by decide) ?_
      refine gl_icmp_le (tgt := 49) dJ11_numberOfTrailingZeros_38 (by decide) (fun h38 => ?_) (fun h38 => ?_)
      · refine gl_iload_n dJ11_numberOfTrailingZeros_49 rfl ?_
        refine gl_bipush (v := nI 16) dJ11_numberOfTrailingZeros_50 (by decide) ?_
        refine gl_icmp_le (tgt := 62) dJ11_numberOfTrailingZeros_52 (by decide) (fun h52 => ?_) (fun h52 => ?_)
        · refine gl_iload_n dJ11_numberOfTrailingZeros_62 rfl ?_
          refine gl_iconst (v := nI 4) dJ11_numberOfTrailingZeros_63 (by decide) ?_
          refine gl_icmp_le (tgt := 74) dJ11_numberOfTrailingZeros_64 (by decide) (fun h64 => ?_) (fun h64 => ?_)
          · refine gl_iload_n dJ11_numberOfTrailingZeros_74 rfl ?_
            refine gl_iload_n dJ11_numberOfTrailingZeros_75 rfl ?_
            refine gl_iconst (v := nI 1) dJ11_numberOfTrailingZeros_76 (by decide) ?_
            refine gl_iushr dJ11_numberOfTrailingZeros_77 rfl ?_
            refine gl_iadd dJ11_numberOfTrailingZeros_78 ?_
            exact gl_iret dJ11_numberOfTrailingZeros_79 rfl ⟨by unfold nz2 nz3 nz4 ushr; (try clear he he'); simp only [*, ↓reduceIte], rfl⟩ (hc := by first | exact Nat.zero_le _ | (dsimp only [rm]; omega)) (hs := by first | exact Nat.zero_le _ | (dsimp only [rm]; omega))
          · refine gl_iinc (v := (nI (17 + 2))) dJ11_numberOfTrailingZeros_67 rfl (nI_add _ 2) rfl rfl ?_
            refine gl_iload_n dJ11_numberOfTrailingZeros_70 rfl ?_
            refine gl_iconst (v := nI 2) dJ11_numberOfTrailingZeros_71 (by decide) ?_
            refine gl_iushr dJ11_numberOfTrailingZeros_72 rfl ?_
            refine gl_istore_n dJ11_numberOfTrailingZeros_73 rfl rfl ?_
            refine gl_iload_n dJ11_numberOfTrailingZeros_74 rfl ?_
            refine gl_iload_n dJ11_numberOfTrailingZeros_75 rfl ?_
            refine gl_iconst (v := nI 1) dJ11_numberOfTrailingZeros_76 (by decide) ?_
            refine gl_iushr dJ11_numberOfTrailingZeros_77 rfl ?_
            refine gl_iadd dJ11_numberOfTrailingZeros_78 ?_
            exact gl_iret dJ11_numberOfTrailingZeros_79 rfl ⟨by unfold nz2 nz3 nz4 ushr; (try clear he he'); simp only [*, ↓reduceIte], rfl⟩ (hc := by first | exact Nat.zero_le _ | (dsimp only [rm]; omega)) (hs := by first | exact Nat.zero_le _ | (dsimp only [rm]; omega))
        · refine gl_iinc (v := (nI (17 + 4))) dJ11_numberOfTrailingZeros_55 rfl (nI_add _ 4) rfl rfl ?_
          refine gl_iload_n dJ11_numberOfTrailingZeros_58 rfl ?_
          refine gl_iconst (v := nI 4) dJ11_numberOfTrailingZeros_59 (by decide) ?_
          refine gl_iushr dJ11_numberOfTrailingZeros_60 rfl ?_
          refine gl_istore_n dJ11_numberOfTrailingZeros_61 rfl rfl ?_
          refine gl_iload_n dJ11_numberOfTrailingZeros_62 rfl ?_
          refine gl_iconst (v := nI 4) dJ11_numberOfTrailingZeros_63 (by decide) ?_
          refine gl_icmp_le (tgt := 74) dJ11_numberOfTrailingZeros_64 (by decide) (fun h64 => ?_) (fun h64 => ?_)
          · refine gl_iload_n dJ11_numberOfTrailingZeros_74 rfl ?_
            refine gl_iload_n dJ11_numberOfTrailingZeros_75 rfl ?_
            refine gl_iconst (v := nI 1) dJ11_numberOfTrailingZeros_76 (by decide) ?_
            refine gl_iushr dJ11_numberOfTrailingZeros_77 rfl ?_
            refine gl_iadd dJ11_numberOfTrailingZeros_78 ?_
            exact gl_iret dJ11_numberOfTrailingZeros_79 rfl ⟨by unfold nz2 nz3 nz4 ushr; (try clear he he'); simp only [*, ↓reduceIte], rfl⟩ (hc := by first | exact Nat.zero_le _ | (dsimp only [rm]; omega)) (hs := by first | exact Nat.zero_le _ | (dsimp only [rm]; omega))
          · refine gl_iinc (v := (nI ((17 + 4) + 2))) dJ11_numberOfTrailingZeros_67 rfl (nI_add _ 2) rfl rfl ?_
            refine gl_iload_n dJ11_numberOfTrailingZeros_70 rfl ?_
            refine gl_iconst (v := nI 2) dJ11_numberOfTrailingZeros_71 (by decide) ?_
            refine gl_iushr dJ11_numberOfTrailingZeros_72 rfl ?_
            refine gl_istore_n dJ11_numberOfTrailingZeros_73 rfl rfl ?_
            refine gl_iload_n dJ11_numberOfTrailingZeros_74 rfl ?_
            refine gl_iload_n dJ11_numberOfTrailingZeros_75 rfl ?_
            refine gl_iconst (v := nI 1) dJ11_numberOfTrailingZeros_76 (by decide) ?_
            refine gl_iushr dJ11_numberOfTrailingZeros_77 rfl ?_
            refine gl_iadd dJ11_numberOfTrailingZeros_78 ?_
            exact gl_iret dJ11_numberOfTrailingZeros_79 rfl ⟨by unfold nz2 nz3 nz4 ushr; (try clear he he'); simp only [*, ↓reduceIte], rfl⟩ (hc := by first | exact Nat.zero_le _ | (dsimp only [rm]; omega)) (hs := by first | exact Nat.zero_le _ | (dsimp only [rm]; omega))
      · refine gl_iinc (v := (nI (17 + 8))) dJ11_numberOfTrailingZeros_41 rfl (nI_add _ 8) rfl rfl ?_
        refine gl_iload_n dJ11_numberOfTrailingZeros_44 rfl ?_
        refine gl_bipush (v := nI 8) dJ11_numberOfTrailingZeros_45 (by decide) ?_
        refine gl_iushr dJ11_numberOfTrailingZeros_47 rfl ?_
        refine gl_istore_n dJ11_numberOfTrailingZeros_48 rfl rfl ?_
        refine gl_iload_n dJ11_numberOfTrailingZeros_49 rfl ?_
        refine gl_bipush (v := nI 16) dJ11_numberOfTrailingZeros_50 (by decide) ?_
        refine gl_icmp_le (tgt := 62) dJ11_numberOfTrailingZeros_52 (by decide) (fun h52 => ?_) (fun h52 => ?_)
        · refine gl_iload_n dJ11_numberOfTrailingZeros_62 rfl ?_
          refine gl_iconst (v := nI 4) dJ11_numberOfTrailingZeros_63 (by decide) ?_
          refine gl_icmp_le (tgt := 74) dJ11_numberOfTrailingZeros_64 (by decide) (fun h64 => ?_) (fun h64 => ?_)
          · refine gl_iload_n dJ11_numberOfTrailingZeros_74 rfl ?_
            refine gl_iload_n dJ11_numberOfTrailingZeros_75 rfl ?_
            refine gl_iconst (v := nI 1) dJ11_numberOfTrailingZeros_76 (by decide) ?_
            refine gl_iushr dJ11_numberOfTrailingZeros_77 rfl ?_
            refine gl_iadd dJ11_numberOfTrailingZeros_78 ?_
            exact gl_iret dJ11_numberOfTrailingZeros_79 rfl ⟨by unfold nz2 nz3 nz4 ushr; (try clear he he'); simp only [*, ↓reduceIte], rfl⟩ (hc := by first | exact Nat.zero_le _ | (dsimp only [rm]; omega)) (hs := by first | exact Nat.zero_le _ | (dsimp only [rm]; omega))
          · refine gl_iinc (v := (nI ((17 + 8) + 2))) dJ11_numberOfTrailingZeros_67 rfl (nI_add _ 2) rfl rfl ?_
            refine gl_iload_n dJ11_numberOfTrailingZeros_70 rfl ?_
            refine gl_iconst (v := nI 2) dJ11_numberOfTrailingZeros_71 (by decide) ?_
            refine gl_iushr dJ11_numberOfTrailingZeros_72 rfl ?_
            refine gl_istore_n dJ11_numberOfTrailingZeros_73 rfl rfl ?_
            refine gl_iload_n dJ11_numberOfTrailingZeros_74 rfl ?_
            refine gl_iload_n dJ11_numberOfTrailingZeros_75 rfl ?_
            refine gl_iconst (v := nI 1) dJ11_numberOfTrailingZeros_76 (by decide) ?_
            refine gl_iushr dJ11_numberOfTrailingZeros_77 rfl ?_
            refine gl_iadd dJ11_numberOfTrailingZeros_78 ?_
            exact gl_iret dJ11_numberOfTrailingZeros_79 rfl ⟨by unfold nz2 nz3 nz4 ushr; (try clear he he'); simp only [*, ↓reduceIte], rfl⟩ (hc := by first | exact Nat.zero_le _ | (dsimp only [rm]; omega)) (hs := by first | exact Nat.zero_le _ | (dsimp only [rm]; omega))
        · refine gl_iinc (v := (nI ((17 + 8) + 4))) dJ11_numberOfTrailingZeros_55 rfl (nI_add _ 4) rfl rfl ?_
          refine gl_iload_n dJ11_numberOfTrailingZeros_58 rfl ?_
          refine gl_iconst (v := nI 4) dJ11_numberOfTrailingZeros_59 (by decide) ?_
          refine gl_iushr dJ11_numberOfTrailingZeros_60 rfl ?_
          refine gl_istore_n dJ11_numberOfTrailingZeros_61 rfl rfl ?_
          refine gl_iload_n dJ11_numberOfTrailingZeros_62 rfl ?_
          refine gl_iconst (v := nI 4) dJ11_numberOfTrailingZeros_63 (by decide) ?_
          refine gl_icmp_le (tgt := 74) dJ11_numberOfTrailingZeros_64 (by decide) (fun h64 => ?_) (fun h64 => ?_)
          · refine gl_iload_n dJ11_numberOfTrailingZeros_74 rfl ?_
            refine gl_iload_n dJ11_numberOfTrailingZeros_75 rfl ?_
            refine gl_iconst (v := nI 1) dJ11_numberOfTrailingZeros_76 (by decide) ?_
            refine gl_iushr dJ11_numberOfTrailingZeros_77 rfl ?_
            refine gl_iadd dJ11_numberOfTrailingZeros_78 ?_
            exact gl_iret dJ11_numberOfTrailingZeros_79 rfl ⟨by unfold nz2 nz3 nz4 ushr; (try clear he he'); simp only [*, ↓reduceIte], rfl⟩ (hc := by first | exact Nat.zero_le _ | (dsimp only [rm]; omega)) (hs := by first | exact Nat.zero_le _ | (dsimp only [rm]; omega))
          · refine gl_iinc (v := (nI (((17 + 8) + 4) + 2))) dJ11_numberOfTrailingZeros_67 rfl (nI_add _ 2) rfl rfl ?_
            refine gl_iload_n dJ11_numberOfTrailingZeros_70 rfl ?_
            refine gl_iconst (v := nI 2) dJ11_numberOfTrailingZeros_71 (by decide) ?_
            refine gl_iushr dJ11_numberOfTrailingZeros_72 rfl ?_
            refine gl_istore_n dJ11_numberOfTrailingZeros_73 rfl rfl ?_
            refine gl_iload_n dJ11_numberOfTrailingZeros_74 rfl ?_
            refine gl_iload_n dJ11_numberOfTrailingZeros_75 rfl ?_
            refine gl_iconst (v := nI 1) dJ11_numberOfTrailingZeros_76 (by decide) ?_
            refine gl_iushr dJ11_numberOfTrailingZeros_77 rfl ?_
            refine gl_iadd dJ11_numberOfTrailingZeros_78 ?_
            exact gl_iret dJ11_numberOfTrailingZeros_79 rfl ⟨by unfold nz2 nz3 nz4 ushr; (try clear he he'); simp only [*, ↓reduceIte], rfl⟩ (hc := by first | exact Nat.zero_le _ | (dsimp only [rm]; omega)) (hs := by first | exact Nat.zero_le _ | (dsimp only [rm]; omega))
  · rw [if_neg h9]
    refine gl_iload_n dJ11_numberOfTrailingZeros_12 rfl ?_
    refine gl_bipush (v := nI 32) dJ11_numberOfTrailingZeros_13 (by decide) ?_
    refine gl_iand dJ11_numberOfTrailingZeros_15 ?_
    exact gl_iret dJ11_numberOfTrailingZeros_16 rfl ⟨rfl, rfl⟩ (hc := by first | exact Nat.zero_le _ | (dsimp only [rm]; omega)) (hs := by first | exact Nat.zero_le _ | (dsimp only [rm]; omega))
theorem bc_or (p : Nat → Bool) : bcE (orI p 7) = cntI p 7 := by
  simp only [orI, cntI]
  generalize p 0 = b0
  generalize p 1 = b1
  generalize p 2 = b2
  generalize p 3 = b3
  generalize p 4 = b4
  generalize p 5 = b5
  generalize p 6 = b6
  revert b0 b1 b2 b3 b4 b5 b6
  decide +kernel
theorem orI_pad (p : Nat → Bool) {n : Nat} (hn : n ≤ 7) : orI p n = orI (fun i => decide (i < n) && p i) 7 := by
  refine bit_ext (fun i hi => ?_)
  rw [bit_orI _ _ _ (by omega) hi, bit_orI _ _ _ (by omega) hi]
  by_cases h : i < n
  · simp [h, show i < 7 by omega]
  · simp [h]
theorem cntI_pad (p : Nat → Bool) (n : Nat) : ∀ k, cntI (fun i => decide (i < n) && p i) (n + k) = cntI p n
  | 0 => cntI_eq (fun c hc => by simp [show c < n from hc])
  | k + 1 => by
    show cntI (fun i => decide (i < n) && p i) (n + k) + bI (decide (n + k < n) && p (n + k)) = _
    rw [cntI_pad p n k, show decide (n + k < n) = false by simp]
    show cntI p n + nI 0 = _
    rw [cntI_nI, nI_add]
    rfl
theorem bc_n (p : Nat → Bool) {n : Nat} (hn : n ≤ 7) : bcE (orI p n) = cntI p n := by
  rw [orI_pad p hn, bc_or, show 7 = n + (7 - n) by omega, cntI_pad]
section XS
variable (L : Nat) {o : OX} {τ : Nat → Nat} {x : XY} {y : MY} {n m t : Nat}
theorem x_worlds (hV : RV o τ x y n m t) : Ct yX0_worlds gX0_worlds (L + 16) 0 0 [.ref 1] (mX o x) (XR o (wlN (y.2.2 23) m, y)) := by
  refine Ct.of rfl rfl rfl rfl rfl ?_
  have hX := hV.rl
  have hL := hV.lb
  have h7 := hL.c7
  have h7q := hL.q7
  generalize hw : y.2.2 23 = w at hX hL
  refine gl_iconst (v := nI 1) dX0_worlds_0 (by decide) ?_
  refine gl_istore_n dX0_worlds_1 rfl rfl ?_
  refine gl_iconst (v := nI 0) dX0_worlds_2 (by decide) ?_
  refine gl_istore_n dX0_worlds_3 rfl rfl ?_
  refine gl_loop (fun q => [some (.ref 1), some (.int (wlN w q)), some (.int (nI q)), none, none]) (fun _ => mX o x) m ?_ ?_
  · intro q hq ih
    have eb := hX.by_ q (by omega)
    have et := hX.truth q (by omega)
    refine gl_iload_n dX0_worlds_4 rfl ?_
    refine gl_aload_n dX0_worlds_5 rfl ?_
    refine gl_get (k := 9) dX0_worlds_6 rfl (rfl : vwCl[0]? = some (RX0, TX0, 30)) in_X0 (by decide) q122 rfl ?_
    refine gl_icmp_ge (tgt := 134) dX0_worlds_9 (by decide) (fun h => absurd h ((by rw [hX.askMany]; exact nI_ge hq (by omega)))) (fun _ => ?_)
    refine gl_aload_n dX0_worlds_12 rfl ?_
    refine gl_get (k := 12) dX0_worlds_13 rfl (rfl : vwCl[0]? = some (RX0, TX0, 30)) in_X0 (by decide) q125 rfl ?_
    refine gl_iload_n dX0_worlds_16 rfl ?_
    refine gl_iald (j := q) dX0_worlds_17 rfl rfl (by omega) ?_
    refine gl_bipush (v := (-9)) dX0_worlds_18 (by decide) ?_
    by_cases hb : w (66 + q) = -9
    · have hfr : frQ w q = true := by simp [frQ, hb]
      refine gl_icmp_ne (tgt := 27) dX0_worlds_20 (by decide) (fun h => absurd ((eb.trans hb)) h) (fun _ => ?_)
      refine gl_iconst (v := nI 1) dX0_worlds_23 (by decide) ?_
      refine gl_goto (tgt := 28) dX0_worlds_24 (by decide) ?_
      refine gl_istore_n dX0_worlds_28 rfl rfl ?_
      refine gl_aload_n dX0_worlds_29 rfl ?_
      refine gl_iload_n dX0_worlds_30 rfl ?_
      refine gl_iconst (v := nI 2) dX0_worlds_31 (by decide) ?_
      refine gl_callV (x_askOf L o x hX (q) (2) (by omega) (by omega) (by omega)) dX0_worlds_32 q600 q602 qs14 q74 q603 rfl hX0_askOf rfl (rfl : vwCl[0]? = some (RX0, TX0, 30)) rfl rfl (rmOk (by omega) rfl) ⟨by first | exact Nat.le_refl _ | exact Nat.zero_le _ | decide | (dsimp only [rm]; omega), by first | exact Nat.le_refl _ | exact Nat.zero_le _ | decide | (dsimp only [rm]; omega)⟩ (rt1 ?_)
      refine gl_aload_n dX0_worlds_35 rfl ?_
      refine gl_iload_n dX0_worlds_36 rfl ?_
      refine gl_iconst (v := nI 1) dX0_worlds_37 (by decide) ?_
      refine gl_callV (x_askOf L o x hX (q) (1) (by omega) (by omega) (by omega)) dX0_worlds_38 q600 q602 qs14 q74 q603 rfl hX0_askOf rfl (rfl : vwCl[0]? = some (RX0, TX0, 30)) rfl rfl (rmOk (by omega) rfl) ⟨by first | exact Nat.le_refl _ | exact Nat.zero_le _ | decide | (dsimp only [rm]; omega), by first | exact Nat.le_refl _ | exact Nat.zero_le _ | decide | (dsimp only [rm]; omega)⟩ (rt1 ?_)
      refine gl_isub dX0_worlds_41 ?_
      refine gl_iconst (v := nI 1) dX0_worlds_42 (by decide) ?_
      refine gl_iadd dX0_worlds_43 ?_
      refine gl_istore dX0_worlds_44 rfl rfl ?_
      refine gl_aload_n dX0_worlds_46 rfl ?_
      refine gl_get (k := 11) dX0_worlds_47 rfl (rfl : vwCl[0]? = some (RX0, TX0, 30)) in_X0 (by decide) q124 rfl ?_
      refine gl_iload_n dX0_worlds_50 rfl ?_
      refine gl_iald (j := q) dX0_worlds_51 rfl rfl (by omega) ?_
      refine gl_bipush (v := (-9)) dX0_worlds_52 (by decide) ?_
      by_cases ht : w (59 + q) = -9
      · refine gl_icmp_eq (tgt := 80) dX0_worlds_54 (by decide) (fun _ => ?_) (fun h => absurd ((et.trans ht)) h)
        refine gl_iload_n dX0_worlds_80 rfl ?_
        refine gl_if_ne (tgt := 123) dX0_worlds_81 (by decide) (fun _ => ?_) (fun h => absurd h ((by decide)))
        refine gl_iload_n dX0_worlds_123 rfl ?_
        refine gl_iload dX0_worlds_124 rfl ?_
        refine gl_imul dX0_worlds_126 ?_
        refine gl_istore_n dX0_worlds_127 rfl rfl ?_
        refine gl_iinc (v := (nI (q + 1))) dX0_worlds_128 rfl (nI_1 _) rfl rfl ?_
        refine gl_goto (tgt := 4) dX0_worlds_131 (by decide) ?_
        refine gl_drop 3 (gl_drop 4 (gl_lcs ?_ ih))
        simp only [wlN, wayI]
        rw [if_pos hfr, if_pos ht]
        rfl
      · refine gl_icmp_eq (tgt := 80) dX0_worlds_54 (by decide) (fun h => absurd h ((by rw [et]; exact ht))) (fun _ => ?_)
        refine gl_iload_n dX0_worlds_57 rfl ?_
        refine gl_if_ne (tgt := 70) dX0_worlds_58 (by decide) (fun _ => ?_) (fun h => absurd h ((by decide)))
        refine gl_iconst (v := nI 1) dX0_worlds_70 (by decide) ?_
        refine gl_goto (tgt := 75) dX0_worlds_71 (by decide) ?_
        refine gl_istore dX0_worlds_75 rfl rfl ?_
        refine gl_goto (tgt := 123) dX0_worlds_77 (by decide) ?_
        refine gl_iload_n dX0_worlds_123 rfl ?_
        refine gl_iload dX0_worlds_124 rfl ?_
        refine gl_imul dX0_worlds_126 ?_
        refine gl_istore_n dX0_worlds_127 rfl rfl ?_
        refine gl_iinc (v := (nI (q + 1))) dX0_worlds_128 rfl (nI_1 _) rfl rfl ?_
        refine gl_goto (tgt := 4) dX0_worlds_131 (by decide) ?_
        refine gl_drop 3 (gl_drop 4 (gl_lcs ?_ ih))
        simp only [wlN, wayI]
        rw [if_pos hfr, if_neg ht]
        rfl
    · have hfr : ¬ frQ w q = true := by simp [frQ, hb]
      obtain ⟨c, hc, ec⟩ := lb_card hL hq hb
      obtain ⟨k, e, -⟩ := hX.card c hc
      have ei : ix (w (66 + q)) = c := by rw [ec]; exact ix_nI (by omega)
      refine gl_icmp_ne (tgt := 27) dX0_worlds_20 (by decide) (fun _ => ?_) (fun h => absurd h ((by rw [eb]; exact hb)))
      refine gl_iconst (v := nI 0) dX0_worlds_27 (by decide) ?_
      refine gl_istore_n dX0_worlds_28 rfl rfl ?_
      refine gl_aload_n dX0_worlds_29 rfl ?_
      refine gl_iload_n dX0_worlds_30 rfl ?_
      refine gl_iconst (v := nI 2) dX0_worlds_31 (by decide) ?_
      refine gl_callV (x_askOf L o x hX (q) (2) (by omega) (by omega) (by omega)) dX0_worlds_32 q600 q602 qs14 q74 q603 rfl hX0_askOf rfl (rfl : vwCl[0]? = some (RX0, TX0, 30)) rfl rfl (rmOk (by omega) rfl) ⟨by first | exact Nat.le_refl _ | exact Nat.zero_le _ | decide | (dsimp only [rm]; omega), by first | exact Nat.le_refl _ | exact Nat.zero_le _ | decide | (dsimp only [rm]; omega)⟩ (rt1 ?_)
      refine gl_aload_n dX0_worlds_35 rfl ?_
      refine gl_iload_n dX0_worlds_36 rfl ?_
      refine gl_iconst (v := nI 1) dX0_worlds_37 (by decide) ?_
      refine gl_callV (x_askOf L o x hX (q) (1) (by omega) (by omega) (by omega)) dX0_worlds_38 q600 q602 qs14 q74 q603 rfl hX0_askOf rfl (rfl : vwCl[0]? = some (RX0, TX0, 30)) rfl rfl (rmOk (by omega) rfl) ⟨by first | exact Nat.le_refl _ | exact Nat.zero_le _ | decide | (dsimp only [rm]; omega), by first | exact Nat.le_refl _ | exact Nat.zero_le _ | decide | (dsimp only [rm]; omega)⟩ (rt1 ?_)
      refine gl_isub dX0_worlds_41 ?_
      refine gl_iconst (v := nI 1) dX0_worlds_42 (by decide) ?_
      refine gl_iadd dX0_worlds_43 ?_
      refine gl_istore dX0_worlds_44 rfl rfl ?_
      refine gl_aload_n dX0_worlds_46 rfl ?_
      refine gl_get (k := 11) dX0_worlds_47 rfl (rfl : vwCl[0]? = some (RX0, TX0, 30)) in_X0 (by decide) q124 rfl ?_
      refine gl_iload_n dX0_worlds_50 rfl ?_
      refine gl_iald (j := q) dX0_worlds_51 rfl rfl (by omega) ?_
      refine gl_bipush (v := (-9)) dX0_worlds_52 (by decide) ?_
      by_cases ht : w (59 + q) = -9
      · refine gl_icmp_eq (tgt := 80) dX0_worlds_54 (by decide) (fun _ => ?_) (fun h => absurd ((et.trans ht)) h)
        refine gl_iload_n dX0_worlds_80 rfl ?_
        refine gl_if_ne (tgt := 123) dX0_worlds_81 (by decide) (fun h => absurd ((by decide)) h) (fun _ => ?_)
        refine gl_aload_n dX0_worlds_84 rfl ?_
        refine gl_get (k := 8) dX0_worlds_85 rfl (rfl : vwCl[0]? = some (RX0, TX0, 30)) in_X0 (by decide) q121 rfl ?_
        refine gl_aload_n dX0_worlds_88 rfl ?_
        refine gl_get (k := 12) dX0_worlds_89 rfl (rfl : vwCl[0]? = some (RX0, TX0, 30)) in_X0 (by decide) q125 rfl ?_
        refine gl_iload_n dX0_worlds_92 rfl ?_
        refine gl_iald (j := q) dX0_worlds_93 rfl rfl (by omega) ?_
        refine gl_aald (j := c) dX0_worlds_94 rfl (eb.trans ec) (by omega) e ?_
        refine gl_meansW hX hL hc e dX0_worlds_95 q555 (by omega) rfl ⟨by first | exact Nat.le_refl _ | exact Nat.zero_le _ | decide | (dsimp only [rm]; omega), by first | exact Nat.le_refl _ | exact Nat.zero_le _ | decide | (dsimp only [rm]; omega)⟩ ?_
        refine gl_aload_n dX0_worlds_98 rfl ?_
        refine gl_iload_n dX0_worlds_99 rfl ?_
        refine gl_iconst (v := nI 1) dX0_worlds_100 (by decide) ?_
        refine gl_callV (x_askOf L o x hX (q) (1) (by omega) (by omega) (by omega)) dX0_worlds_101 q600 q602 qs14 q74 q603 rfl hX0_askOf rfl (rfl : vwCl[0]? = some (RX0, TX0, 30)) rfl rfl (rmOk (by omega) rfl) ⟨by first | exact Nat.le_refl _ | exact Nat.zero_le _ | decide | (dsimp only [rm]; omega), by first | exact Nat.le_refl _ | exact Nat.zero_le _ | decide | (dsimp only [rm]; omega)⟩ (rt1 ?_)
        refine gl_aload_n dX0_worlds_104 rfl ?_
        refine gl_iload_n dX0_worlds_105 rfl ?_
        refine gl_iconst (v := nI 2) dX0_worlds_106 (by decide) ?_
        refine gl_callV (x_askOf L o x hX (q) (2) (by omega) (by omega) (by omega)) dX0_worlds_107 q600 q602 qs14 q74 q603 rfl hX0_askOf rfl (rfl : vwCl[0]? = some (RX0, TX0, 30)) rfl rfl (rmOk (by omega) rfl) ⟨by first | exact Nat.le_refl _ | exact Nat.zero_le _ | decide | (dsimp only [rm]; omega), by first | exact Nat.le_refl _ | exact Nat.zero_le _ | decide | (dsimp only [rm]; omega)⟩ (rt1 ?_)
        refine gl_callS (x_isIn L _ _ _ _) dX0_worlds_110 q298 q299 q74 q300 rfl hX0_isIn rfl rfl (rmOk (by omega) rfl) ⟨by first | exact Nat.le_refl _ | exact Nat.zero_le _ | decide | (dsimp only [rm]; omega), by first | exact Nat.le_refl _ | exact Nat.zero_le _ | decide | (dsimp only [rm]; omega)⟩ (rt1 ?_)
        refine gl_if_eq (tgt := 120) dX0_worlds_113 (by decide) (fun h113 => ?_) (fun h113 => ?_)
        · refine gl_iconst (v := nI 0) dX0_worlds_120 (by decide) ?_
          refine gl_istore dX0_worlds_121 rfl rfl ?_
          refine gl_iload_n dX0_worlds_123 rfl ?_
          refine gl_iload dX0_worlds_124 rfl ?_
          refine gl_imul dX0_worlds_126 ?_
          refine gl_istore_n dX0_worlds_127 rfl rfl ?_
          refine gl_iinc (v := (nI (q + 1))) dX0_worlds_128 rfl (nI_1 _) rfl rfl ?_
          refine gl_goto (tgt := 4) dX0_worlds_131 (by decide) ?_
          refine gl_drop 3 (gl_drop 4 (gl_lcs ?_ ih))
          simp only [wlN, wayI]
          rw [if_neg hfr, if_pos ht, ei, show inR (mns w c) (w (38 + q)) (w (45 + q)) = false from bI_fa h113]
          rfl
        · refine gl_iconst (v := nI 1) dX0_worlds_116 (by decide) ?_
          refine gl_goto (tgt := 121) dX0_worlds_117 (by decide) ?_
          refine gl_istore dX0_worlds_121 rfl rfl ?_
          refine gl_iload_n dX0_worlds_123 rfl ?_
          refine gl_iload dX0_worlds_124 rfl ?_
          refine gl_imul dX0_worlds_126 ?_
          refine gl_istore_n dX0_worlds_127 rfl rfl ?_
          refine gl_iinc (v := (nI (q + 1))) dX0_worlds_128 rfl (nI_1 _) rfl rfl ?_
          refine gl_goto (tgt := 4) dX0_worlds_131 (by decide) ?_
          refine gl_drop 3 (gl_drop 4 (gl_lcs ?_ ih))
          simp only [wlN, wayI]
          rw [if_neg hfr, if_pos ht, ei, show inR (mns w c) (w (38 + q)) (w (45 + q)) = true from bI_tr h113]
          rfl
      · refine gl_icmp_eq (tgt := 80) dX0_worlds_54 (by decide) (fun h => absurd h ((by rw [et]; exact ht))) (fun _ => ?_)
        refine gl_iload_n dX0_worlds_57 rfl ?_
        refine gl_if_ne (tgt := 70) dX0_worlds_58 (by decide) (fun h => absurd ((by decide)) h) (fun _ => ?_)
        refine gl_aload_n dX0_worlds_61 rfl ?_
        refine gl_iload_n dX0_worlds_62 rfl ?_
        refine gl_callV (x_isRight L o x hX hL q c hq hc ec) dX0_worlds_63 q743 q745 qs23 q74 q746 rfl hX0_isRight rfl (rfl : vwCl[0]? = some (RX0, TX0, 30)) rfl rfl (rmOk (by omega) rfl) ⟨by first | exact Nat.le_refl _ | exact Nat.zero_le _ | decide | (dsimp only [rm]; omega), by first | exact Nat.le_refl _ | exact Nat.zero_le _ | decide | (dsimp only [rm]; omega)⟩ (rt1 ?_)
        refine gl_iconst (v := nI 1) dX0_worlds_66 (by decide) ?_
        refine gl_icmp_ne (tgt := 74) dX0_worlds_67 (by decide) (fun h67 => ?_) (fun h67 => ?_)
        · refine gl_iconst (v := nI 0) dX0_worlds_74 (by decide) ?_
          refine gl_istore dX0_worlds_75 rfl rfl ?_
          refine gl_goto (tgt := 123) dX0_worlds_77 (by decide) ?_
          refine gl_iload_n dX0_worlds_123 rfl ?_
          refine gl_iload dX0_worlds_124 rfl ?_
          refine gl_imul dX0_worlds_126 ?_
          refine gl_istore_n dX0_worlds_127 rfl rfl ?_
          refine gl_iinc (v := (nI (q + 1))) dX0_worlds_128 rfl (nI_1 _) rfl rfl ?_
          refine gl_goto (tgt := 4) dX0_worlds_131 (by decide) ?_
          refine gl_drop 3 (gl_drop 4 (gl_lcs ?_ ih))
          simp only [wlN, wayI]
          have z : stB w q = nI 0 := by
            revert h67
            unfold stB
            rw [if_neg ht]
            by_cases h : mns w (ix (w (66 + q))) = w (59 + q)
            · rw [if_pos h]; intro q; exact absurd rfl q
            · rw [if_neg h]; intro; rfl
          rw [if_neg hfr, if_neg ht, z]
          rfl
        · refine gl_iconst (v := nI 1) dX0_worlds_70 (by decide) ?_
          refine gl_goto (tgt := 75) dX0_worlds_71 (by decide) ?_
          refine gl_istore dX0_worlds_75 rfl rfl ?_
          refine gl_goto (tgt := 123) dX0_worlds_77 (by decide) ?_
          refine gl_iload_n dX0_worlds_123 rfl ?_
          refine gl_iload dX0_worlds_124 rfl ?_
          refine gl_imul dX0_worlds_126 ?_
          refine gl_istore_n dX0_worlds_127 rfl rfl ?_
          refine gl_iinc (v := (nI (q + 1))) dX0_worlds_128 rfl (nI_1 _) rfl rfl ?_
          refine gl_goto (tgt := 4) dX0_worlds_131 (by decide) ?_
          refine gl_drop 3 (gl_drop 4 (gl_lcs ?_ ih))
          simp only [wlN, wayI]
          rw [if_neg hfr, if_neg ht, h67]
          rfl
  · refine gl_iload_n dX0_worlds_4 rfl ?_
    refine gl_aload_n dX0_worlds_5 rfl ?_
    refine gl_get (k := 9) dX0_worlds_6 rfl (rfl : vwCl[0]? = some (RX0, TX0, 30)) in_X0 (by decide) q122 rfl ?_
    refine gl_icmp_ge (tgt := 134) dX0_worlds_9 (by decide) (fun _ => ?_) (fun h => absurd ((by rw [hX.askMany]; exact nI_le (Nat.le_refl _) (by omega))) h)
    refine gl_iload_n dX0_worlds_134 rfl ?_
    exact gl_iret dX0_worlds_135 rfl (XR.same hV) (hc := by first | exact Nat.zero_le _ | (dsimp only [rm]; omega)) (hs := by first | exact Nat.zero_le _ | (dsimp only [rm]; omega))
theorem x_never (hV : RV o τ x y n m t) : Ct yX0_never gX0_never (L + 17) 0 0 [.ref 1] (mX o x) (XR o (sp_never y n m)) := by
  refine Ct.of rfl rfl rfl rfl rfl ?_
  have hX := hV.rl
  have hL := hV.lb
  have h7 := hL.c7
  have h7q := hL.q7
  unfold sp_never
  generalize hw : y.2.2 23 = w at hX hL
  refine gl_iconst (v := nI 0) dX0_never_0 (by decide) ?_
  refine gl_istore_n dX0_never_1 rfl rfl ?_
  refine gl_iconst (v := nI 0) dX0_never_2 (by decide) ?_
  refine gl_istore_n dX0_never_3 rfl rfl ?_
  refine gl_loop (fun q => [some (.ref 1), some (.int (orI (fun q => !canB w q n) q)), some (.int (nI q)), none, none]) (fun _ => mX o x) m ?_ ?_
  · intro q hq ih
    have et := hX.truth q (by omega)
    refine gl_iload_n dX0_never_4 rfl ?_
    refine gl_aload_n dX0_never_5 rfl ?_
    refine gl_get (k := 9) dX0_never_6 rfl (rfl : vwCl[0]? = some (RX0, TX0, 30)) in_X0 (by decide) q122 rfl ?_
    refine gl_icmp_ge (tgt := 100) dX0_never_9 (by decide) (fun h => absurd h ((by rw [hX.askMany]; exact nI_ge hq (by omega)))) (fun _ => ?_)
    refine gl_iconst (v := nI 0) dX0_never_12 (by decide) ?_
    refine gl_istore_n dX0_never_13 rfl rfl ?_
    refine gl_iconst (v := nI 0) dX0_never_14 (by decide) ?_
    refine gl_istore dX0_never_15 rfl rfl ?_
    refine gl_loop (fun k => [some (.ref 1), some (.int (orI (fun q => !canB w q n) q)), some (.int (nI q)), some (.int (bI (canB w q k))), some (.int (nI k))]) (fun _ => mX o x) n ?_ ?_
    · intro k hk ih2
      obtain ⟨p, e, -⟩ := hX.card k hk
      have orb : ∀ a b : Bool, bI a ||| bI b = bI (a || b) := by decide
      have o1 : ∀ a : Bool, bI a ||| nI 1 = bI (a || true) := by decide
      have o0 : ∀ a : Bool, bI a ||| nI 0 = bI (a || false) := by decide
      refine gl_iload dX0_never_17 rfl ?_
      refine gl_aload_n dX0_never_19 rfl ?_
      refine gl_get (k := 7) dX0_never_20 rfl (rfl : vwCl[0]? = some (RX0, TX0, 30)) in_X0 (by decide) q119 rfl ?_
      refine gl_icmp_ge (tgt := 80) dX0_never_23 (by decide) (fun h => absurd h ((by rw [hX.many]; exact nI_ge hk (by omega)))) (fun _ => ?_)
      refine gl_iload_n dX0_never_26 rfl ?_
      refine gl_aload_n dX0_never_27 rfl ?_
      refine gl_iload dX0_never_28 rfl ?_
      refine gl_iload_n dX0_never_30 rfl ?_
      refine gl_callV (x_doesFit L o x hX hL (k) (q) (by omega) (by omega)) dX0_never_31 q686 q688 qs18 q74 q689 rfl hX0_doesFit rfl (rfl : vwCl[0]? = some (RX0, TX0, 30)) rfl rfl (rmOk (by omega) rfl) ⟨by first | exact Nat.le_refl _ | exact Nat.zero_le _ | decide | (dsimp only [rm]; omega), by first | exact Nat.le_refl _ | exact Nat.zero_le _ | decide | (dsimp only [rm]; omega)⟩ (rt1 ?_)
      refine gl_if_eq (tgt := 71) dX0_never_34 (by decide) (fun h34 => ?_) (fun h34 => ?_)
      · refine gl_iconst (v := nI 0) dX0_never_71 (by decide) ?_
        refine gl_ior dX0_never_72 ?_
        refine gl_istore_n dX0_never_73 rfl rfl ?_
        refine gl_iinc (v := (nI (k + 1))) dX0_never_74 rfl (nI_1 _) rfl rfl ?_
        refine gl_goto (tgt := 17) dX0_never_77 (by decide) ?_
        rw [o0]
        refine gl_lcs ?_ ih2
        simp only [canB, bI_fa h34, Bool.false_and]
        rfl
      · refine gl_aload_n dX0_never_37 rfl ?_
        refine gl_get (k := 11) dX0_never_38 rfl (rfl : vwCl[0]? = some (RX0, TX0, 30)) in_X0 (by decide) q124 rfl ?_
        refine gl_iload_n dX0_never_41 rfl ?_
        refine gl_iald (j := q) dX0_never_42 rfl rfl (by omega) ?_
        refine gl_bipush (v := (-9)) dX0_never_43 (by decide) ?_
        refine gl_icmp_eq (tgt := 67) dX0_never_45 (by decide) (fun h45 => ?_) (fun h45 => ?_)
        · rw [et] at h45
          refine gl_iconst (v := nI 1) dX0_never_67 (by decide) ?_
          refine gl_goto (tgt := 72) dX0_never_68 (by decide) ?_
          refine gl_ior dX0_never_72 ?_
          refine gl_istore_n dX0_never_73 rfl rfl ?_
          refine gl_iinc (v := (nI (k + 1))) dX0_never_74 rfl (nI_1 _) rfl rfl ?_
          refine gl_goto (tgt := 17) dX0_never_77 (by decide) ?_
          rw [o1]
          refine gl_lcs ?_ ih2
          simp only [canB, bI_tr h34, okT, h45]
          rfl
        · rw [et] at h45
          refine gl_aload_n dX0_never_48 rfl ?_
          refine gl_get (k := 8) dX0_never_49 rfl (rfl : vwCl[0]? = some (RX0, TX0, 30)) in_X0 (by decide) q121 rfl ?_
          refine gl_iload dX0_never_52 rfl ?_
          refine gl_aald (j := k) dX0_never_54 rfl rfl (by omega) e ?_
          refine gl_meansW hX hL hk e dX0_never_55 q555 (by omega) rfl ⟨by first | exact Nat.le_refl _ | exact Nat.zero_le _ | decide | (dsimp only [rm]; omega), by first | exact Nat.le_refl _ | exact Nat.zero_le _ | decide | (dsimp only [rm]; omega)⟩ ?_
          refine gl_aload_n dX0_never_58 rfl ?_
          refine gl_get (k := 11) dX0_never_59 rfl (rfl : vwCl[0]? = some (RX0, TX0, 30)) in_X0 (by decide) q124 rfl ?_
          refine gl_iload_n dX0_never_62 rfl ?_
          refine gl_iald (j := q) dX0_never_63 rfl rfl (by omega) ?_
          refine gl_icmp_ne (tgt := 71) dX0_never_64 (by decide) (fun h64 => ?_) (fun h64 => ?_)
          · rw [et] at h64
            refine gl_iconst (v := nI 0) dX0_never_71 (by decide) ?_
            refine gl_ior dX0_never_72 ?_
            refine gl_istore_n dX0_never_73 rfl rfl ?_
            refine gl_iinc (v := (nI (k + 1))) dX0_never_74 rfl (nI_1 _) rfl rfl ?_
            refine gl_goto (tgt := 17) dX0_never_77 (by decide) ?_
            rw [o0]
            refine gl_lcs ?_ ih2
            have z : okT w q k = false := by
              have h' : ¬ w (59 + q) = mns w k := fun z => h64 z.symm
              simp [okT, h45, h']
            simp only [canB, bI_tr h34, z]
            rfl
          · rw [et] at h64
            refine gl_iconst (v := nI 1) dX0_never_67 (by decide) ?_
            refine gl_goto (tgt := 72) dX0_never_68 (by decide) ?_
            refine gl_ior dX0_never_72 ?_
            refine gl_istore_n dX0_never_73 rfl rfl ?_
            refine gl_iinc (v := (nI (k + 1))) dX0_never_74 rfl (nI_1 _) rfl rfl ?_
            refine gl_goto (tgt := 17) dX0_never_77 (by decide) ?_
            rw [o1]
            refine gl_lcs ?_ ih2
            have z : okT w q k = true := by simp [okT, h64]
            simp only [canB, bI_tr h34, z]
            rfl
    · refine gl_iload dX0_never_17 rfl ?_
      refine gl_aload_n dX0_never_19 rfl ?_
      refine gl_get (k := 7) dX0_never_20 rfl (rfl : vwCl[0]? = some (RX0, TX0, 30)) in_X0 (by decide) q119 rfl ?_
      refine gl_icmp_ge (tgt := 80) dX0_never_23 (by decide) (fun _ => ?_) (fun h => absurd ((by rw [hX.many]; exact nI_le (Nat.le_refl _) (by omega))) h)
      refine gl_iload_n dX0_never_80 rfl ?_
      refine gl_iload_n dX0_never_81 rfl ?_
      refine gl_if_eq (tgt := 89) dX0_never_82 (by decide) (fun h82 => ?_) (fun h82 => ?_)
      · refine gl_iconst (v := nI 1) dX0_never_89 (by decide) ?_
        refine gl_iload_n dX0_never_90 rfl ?_
        refine gl_ishl dX0_never_91 ?_
        refine gl_ior dX0_never_92 ?_
        refine gl_istore_n dX0_never_93 rfl rfl ?_
        refine gl_iinc (v := (nI (q + 1))) dX0_never_94 rfl (nI_1 _) rfl rfl ?_
        refine gl_goto (tgt := 4) dX0_never_97 (by decide) ?_
        refine gl_drop 3 (gl_drop 4 (gl_lcs ?_ ih))
        simp only [orI, bI_fa h82]
        rfl
      · refine gl_iconst (v := nI 0) dX0_never_85 (by decide) ?_
        refine gl_goto (tgt := 92) dX0_never_86 (by decide) ?_
        refine gl_ior dX0_never_92 ?_
        refine gl_istore_n dX0_never_93 rfl rfl ?_
        refine gl_iinc (v := (nI (q + 1))) dX0_never_94 rfl (nI_1 _) rfl rfl ?_
        refine gl_goto (tgt := 4) dX0_never_97 (by decide) ?_
        refine gl_drop 3 (gl_drop 4 (gl_lcs ?_ ih))
        simp only [orI, bI_tr h82]
        rfl
  · refine gl_iload_n dX0_never_4 rfl ?_
    refine gl_aload_n dX0_never_5 rfl ?_
    refine gl_get (k := 9) dX0_never_6 rfl (rfl : vwCl[0]? = some (RX0, TX0, 30)) in_X0 (by decide) q122 rfl ?_
    refine gl_icmp_ge (tgt := 100) dX0_never_9 (by decide) (fun _ => ?_) (fun h => absurd ((by rw [hX.askMany]; exact nI_le (Nat.le_refl _) (by omega))) h)
    refine gl_iload_n dX0_never_100 rfl ?_
    exact gl_iret dX0_never_101 rfl (XR.same hV) (hc := by first | exact Nat.zero_le _ | (dsimp only [rm]; omega)) (hs := by first | exact Nat.zero_le _ | (dsimp only [rm]; omega))
theorem x_forged (hV : RV o τ x y n m t) : Ct yX0_forged gX0_forged (L + 18) 0 0 [.ref 1] (mX o x) (XR o (sp_forged y n m)) := by
  refine Ct.of rfl rfl rfl rfl rfl ?_
  have hX := hV.rl
  have hL := hV.lb
  have h7 := hL.c7
  unfold sp_forged
  generalize hw : y.2.2 23 = w at hX hL
  refine gl_bipush (v := (-9)) dX0_forged_0 (by decide) ?_
  refine gl_istore_n dX0_forged_2 rfl rfl ?_
  refine gl_iconst (v := (-1)) dX0_forged_3 (by decide) ?_
  refine gl_istore_n dX0_forged_4 rfl rfl ?_
  refine gl_iconst (v := nI 0) dX0_forged_5 (by decide) ?_
  refine gl_istore_n dX0_forged_6 rfl rfl ?_
  refine gl_loop (fun k => [some (.ref 1), some (.int (fgS w m k).1), some (.int (fgS w m k).2), some (.int (nI k)), none]) (fun _ => mX o x) n ?_ ?_
  · intro k hk ih
    refine gl_iload_n dX0_forged_7 rfl ?_
    refine gl_aload_n dX0_forged_8 rfl ?_
    refine gl_get (k := 7) dX0_forged_9 rfl (rfl : vwCl[0]? = some (RX0, TX0, 30)) in_X0 (by decide) q119 rfl ?_
    refine gl_icmp_ge (tgt := 47) dX0_forged_12 (by decide) (fun h => absurd h ((by rw [hX.many]; exact nI_ge hk (by omega)))) (fun _ => ?_)
    refine gl_aload_n dX0_forged_15 rfl ?_
    refine gl_iload_n dX0_forged_16 rfl ?_
    refine gl_callV (x_fitted L o x hX hL (k) (by omega)) dX0_forged_17 q911 q684 qs17 q74 q685 rfl hX0_fitted rfl (rfl : vwCl[0]? = some (RX0, TX0, 30)) rfl rfl (rmOk (by omega) rfl) ⟨by first | exact Nat.le_refl _ | exact Nat.zero_le _ | decide | (dsimp only [rm]; omega), by first | exact Nat.le_refl _ | exact Nat.zero_le _ | decide | (dsimp only [rm]; omega)⟩ (rt1 ?_)
    refine gl_istore dX0_forged_20 rfl rfl ?_
    refine gl_iload dX0_forged_22 rfl ?_
    refine gl_iload_n dX0_forged_24 rfl ?_
    refine gl_icmp_le (tgt := 32) dX0_forged_25 (by decide) (fun h25 => ?_) (fun h25 => ?_)
    · have z : ¬ (fgS w m k).2 < ftN w k m := k2_nlt h25
      refine gl_iload_n dX0_forged_32 rfl ?_
      refine gl_istore_n dX0_forged_33 rfl rfl ?_
      refine gl_iload_n dX0_forged_34 rfl ?_
      refine gl_iload dX0_forged_35 rfl ?_
      refine gl_callS (j_max L _ _ _) dX0_forged_37 q859 q860 q94 q861 rfl hJ10_max rfl rfl (rmOk (by omega) rfl) ⟨by first | exact Nat.le_refl _ | exact Nat.zero_le _ | decide | (dsimp only [rm]; omega), by first | exact Nat.le_refl _ | exact Nat.zero_le _ | decide | (dsimp only [rm]; omega)⟩ (rt1 ?_)
      refine gl_istore_n dX0_forged_40 rfl rfl ?_
      refine gl_iinc (v := (nI (k + 1))) dX0_forged_41 rfl (nI_1 _) rfl rfl ?_
      refine gl_goto (tgt := 7) dX0_forged_44 (by decide) ?_
      refine gl_drop 4 (gl_lcs ?_ ih)
      simp only [fgS, if_neg z]
      rfl
    · have z : (fgS w m k).2 < ftN w k m := k2_lt h25
      refine gl_iload_n dX0_forged_28 rfl ?_
      refine gl_goto (tgt := 33) dX0_forged_29 (by decide) ?_
      refine gl_istore_n dX0_forged_33 rfl rfl ?_
      refine gl_iload_n dX0_forged_34 rfl ?_
      refine gl_iload dX0_forged_35 rfl ?_
      refine gl_callS (j_max L _ _ _) dX0_forged_37 q859 q860 q94 q861 rfl hJ10_max rfl rfl (rmOk (by omega) rfl) ⟨by first | exact Nat.le_refl _ | exact Nat.zero_le _ | decide | (dsimp only [rm]; omega), by first | exact Nat.le_refl _ | exact Nat.zero_le _ | decide | (dsimp only [rm]; omega)⟩ (rt1 ?_)
      refine gl_istore_n dX0_forged_40 rfl rfl ?_
      refine gl_iinc (v := (nI (k + 1))) dX0_forged_41 rfl (nI_1 _) rfl rfl ?_
      refine gl_goto (tgt := 7) dX0_forged_44 (by decide) ?_
      refine gl_drop 4 (gl_lcs ?_ ih)
      simp only [fgS, if_pos z]
      rfl
  · refine gl_iload_n dX0_forged_7 rfl ?_
    refine gl_aload_n dX0_forged_8 rfl ?_
    refine gl_get (k := 7) dX0_forged_9 rfl (rfl : vwCl[0]? = some (RX0, TX0, 30)) in_X0 (by decide) q119 rfl ?_
    refine gl_icmp_ge (tgt := 47) dX0_forged_12 (by decide) (fun _ => ?_) (fun h => absurd ((by rw [hX.many]; exact nI_le (Nat.le_refl _) (by omega))) h)
    refine gl_iload_n dX0_forged_47 rfl ?_
    refine gl_bipush (v := (-9)) dX0_forged_48 (by decide) ?_
    refine gl_icmp_ne (tgt := 58) dX0_forged_50 (by decide) (fun h50 => ?_) (fun h50 => ?_)
    · rw [if_neg h50]
      refine gl_aload_n dX0_forged_58 rfl ?_
      refine gl_iload_n dX0_forged_59 rfl ?_
      refine gl_iload_n dX0_forged_60 rfl ?_
      refine gl_callV (x_ask L o x _ _) dX0_forged_61 q357 q359 qs3 q74 q360 rfl hX0_ask rfl (rfl : vwCl[0]? = some (RX0, TX0, 30)) rfl rfl (rmOk (by omega) rfl) ⟨by first | exact Nat.le_refl _ | exact Nat.zero_le _ | decide | (dsimp only [rm]; omega), by first | exact Nat.le_refl _ | exact Nat.zero_le _ | decide | (dsimp only [rm]; omega)⟩ (rt1 ?_)
      exact gl_iret dX0_forged_64 rfl ⟨rfl, o, _, τ, n, m, t, rfl, ⟨rfl, rfl⟩, hV.ask _⟩ (hc := by first | exact Nat.zero_le _ | (dsimp only [rm]; omega)) (hs := by first | exact Nat.zero_le _ | (dsimp only [rm]; omega))
    · rw [if_pos h50]
      refine gl_bipush (v := (-9)) dX0_forged_53 (by decide) ?_
      refine gl_goto (tgt := 64) dX0_forged_55 (by decide) ?_
      exact gl_iret dX0_forged_64 rfl (XR.same hV) (hc := by first | exact Nat.zero_le _ | (dsimp only [rm]; omega)) (hs := by first | exact Nat.zero_le _ | (dsimp only [rm]; omega))
theorem cnt_not (p : Nat → Bool) : ∀ n, nI n - cntI (fun c => !p c) n = cntI p n := by
  intro n
  have h : ∀ n, cN p n + cN (fun c => !p c) n = n := by
    intro n
    induction n with
    | zero => rfl
    | succ n ih =>
      simp only [cN]
      cases p n <;> simp <;> omega
  rw [cntI_nI, cntI_nI, nI_sub (cN_le _ _)]
  congr 1
  have := h n
  omega
theorem x_habit (hV : RV o τ x y n m t) : Ct yX0_habit gX0_habit (L + 17) 0 0 [.ref 1] (mX o x) (XR o (sp_habit y n)) := by
  refine Ct.of rfl rfl rfl rfl rfl ?_
  have hX := hV.rl
  have hL := hV.lb
  have h7 := hL.c7
  unfold sp_habit
  generalize hw : y.2.2 23 = w at hX hL
  refine gl_iconst (v := nI 0) dX0_habit_0 (by decide) ?_
  refine gl_istore_n dX0_habit_1 rfl rfl ?_
  refine gl_iconst (v := nI 0) dX0_habit_2 (by decide) ?_
  refine gl_istore_n dX0_habit_3 rfl rfl ?_
  refine gl_loop (fun k => [some (.ref 1), some (.int (orI (fun c => !hbB w n c) k)), some (.int (nI k))]) (fun _ => mX o x) n ?_ ?_
  · intro k hk ih
    obtain ⟨p, e, -⟩ := hX.card k hk
    refine gl_iload_n dX0_habit_4 rfl ?_
    refine gl_aload_n dX0_habit_5 rfl ?_
    refine gl_get (k := 7) dX0_habit_6 rfl (rfl : vwCl[0]? = some (RX0, TX0, 30)) in_X0 (by decide) q119 rfl ?_
    refine gl_icmp_ge (tgt := 53) dX0_habit_9 (by decide) (fun h => absurd h ((by rw [hX.many]; exact nI_ge hk (by omega)))) (fun _ => ?_)
    refine gl_iload_n dX0_habit_12 rfl ?_
    refine gl_aload_n dX0_habit_13 rfl ?_
    refine gl_get (k := 8) dX0_habit_14 rfl (rfl : vwCl[0]? = some (RX0, TX0, 30)) in_X0 (by decide) q121 rfl ?_
    refine gl_iload_n dX0_habit_17 rfl ?_
    refine gl_aald (j := k) dX0_habit_18 rfl rfl (by omega) e ?_
    refine gl_shelfW hX hL hk e dX0_habit_19 n450 ?_
    refine gl_aload_n dX0_habit_22 rfl ?_
    refine gl_aload_n dX0_habit_23 rfl ?_
    refine gl_get (k := 8) dX0_habit_24 rfl (rfl : vwCl[0]? = some (RX0, TX0, 30)) in_X0 (by decide) q121 rfl ?_
    refine gl_iload_n dX0_habit_27 rfl ?_
    refine gl_aald (j := k) dX0_habit_28 rfl rfl (by omega) e ?_
    refine gl_kindW hX hL hk e dX0_habit_29 q525 (by omega) rfl ⟨by first | exact Nat.le_refl _ | exact Nat.zero_le _ | decide | (dsimp only [rm]; omega), by first | exact Nat.le_refl _ | exact Nat.zero_le _ | decide | (dsimp only [rm]; omega)⟩ ?_
    refine gl_callV (x_homeOf L o x hX hL _) dX0_habit_32 q927 q929 qs35 q74 q930 rfl hX0_homeOf rfl (rfl : vwCl[0]? = some (RX0, TX0, 30)) rfl rfl (rmOk (by omega) rfl) ⟨by first | exact Nat.le_refl _ | exact Nat.zero_le _ | decide | (dsimp only [rm]; omega), by first | exact Nat.le_refl _ | exact Nat.zero_le _ | decide | (dsimp only [rm]; omega)⟩ (rt1 ?_)
    refine gl_icmp_ne (tgt := 42) dX0_habit_35 (by decide) (fun h35 => ?_) (fun h35 => ?_)
    · have z : hbB w n k = false := by simpa [hbB] using h35
      refine gl_iconst (v := nI 1) dX0_habit_42 (by decide) ?_
      refine gl_iload_n dX0_habit_43 rfl ?_
      refine gl_ishl dX0_habit_44 ?_
      refine gl_ior dX0_habit_45 ?_
      refine gl_istore_n dX0_habit_46 rfl rfl ?_
      refine gl_iinc (v := (nI (k + 1))) dX0_habit_47 rfl (nI_1 _) rfl rfl ?_
      refine gl_goto (tgt := 4) dX0_habit_50 (by decide) ?_
      refine gl_lcs ?_ ih
      simp only [orI, z]
      rfl
    · have z : hbB w n k = true := by simpa [hbB] using h35
      refine gl_iconst (v := nI 0) dX0_habit_38 (by decide) ?_
      refine gl_goto (tgt := 45) dX0_habit_39 (by decide) ?_
      refine gl_ior dX0_habit_45 ?_
      refine gl_istore_n dX0_habit_46 rfl rfl ?_
      refine gl_iinc (v := (nI (k + 1))) dX0_habit_47 rfl (nI_1 _) rfl rfl ?_
      refine gl_goto (tgt := 4) dX0_habit_50 (by decide) ?_
      refine gl_lcs ?_ ih
      simp only [orI, z]
      rfl
  · refine gl_iload_n dX0_habit_4 rfl ?_
    refine gl_aload_n dX0_habit_5 rfl ?_
    refine gl_get (k := 7) dX0_habit_6 rfl (rfl : vwCl[0]? = some (RX0, TX0, 30)) in_X0 (by decide) q119 rfl ?_
    refine gl_icmp_ge (tgt := 53) dX0_habit_9 (by decide) (fun _ => ?_) (fun h => absurd ((by rw [hX.many]; exact nI_le (Nat.le_refl _) (by omega))) h)
    refine gl_aload_n dX0_habit_53 rfl ?_
    refine gl_iload_n dX0_habit_54 rfl ?_
    refine gl_aload_n dX0_habit_55 rfl ?_
    refine gl_get (k := 7) dX0_habit_56 rfl (rfl : vwCl[0]? = some (RX0, TX0, 30)) in_X0 (by decide) q119 rfl ?_
    rw [hX.many]
    refine gl_iload_n dX0_habit_59 rfl ?_
    refine gl_callS (j_bc L _ _) dX0_habit_60 q889 q890 q95 q891 rfl hJ11_bitCount rfl rfl (rmOk (by omega) rfl) ⟨by first | exact Nat.le_refl _ | exact Nat.zero_le _ | decide | (dsimp only [rm]; omega), by first | exact Nat.le_refl _ | exact Nat.zero_le _ | decide | (dsimp only [rm]; omega)⟩ (rt1 ?_)
    refine gl_isub dX0_habit_63 ?_
    rw [bc_n _ h7, cnt_not]
    refine gl_callV (x_ask L o x _ _) dX0_habit_64 q357 q359 qs3 q74 q360 rfl hX0_ask rfl (rfl : vwCl[0]? = some (RX0, TX0, 30)) rfl rfl (rmOk (by omega) rfl) ⟨by first | exact Nat.le_refl _ | exact Nat.zero_le _ | decide | (dsimp only [rm]; omega), by first | exact Nat.le_refl _ | exact Nat.zero_le _ | decide | (dsimp only [rm]; omega)⟩ (rt1 ?_)
    exact gl_iret dX0_habit_67 rfl ⟨rfl, o, _, τ, n, m, t, rfl, ⟨rfl, rfl⟩, hV.ask _⟩ (hc := by first | exact Nat.zero_le _ | (dsimp only [rm]; omega)) (hs := by first | exact Nat.zero_le _ | (dsimp only [rm]; omega))
end XS

