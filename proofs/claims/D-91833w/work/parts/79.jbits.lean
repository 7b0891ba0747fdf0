/-! THE JDK: Integer.bitCount -/
set_option maxRecDepth 100000
abbrev ush (a k : Int) : Int := ((Int32.ofInt a).toUInt32 >>> ((Int32.ofInt k).toUInt32 &&& Int32.toUInt32 31)).toInt32.toInt
abbrev an (a k : Int) : Int := (Int32.ofInt a &&& Int32.ofInt k).toInt
def bc1 (b : Int) : Int := b - an (ush b 1) 1431655765
def bc2 (x : Int) : Int := an x 858993459 + an (ush x 2) 858993459
def bc3 (x : Int) : Int := an (x + ush x 4) 252645135
def bc4 (x : Int) : Int := x + ush x 8
def bc5 (x : Int) : Int := x + ush x 16
theorem bc_all : ∀ n : Fin 4096, an (bc5 (bc4 (bc3 (bc2 (bc1 (n.val : Int)))))) 63 = mOnes (n.val : Int) := by decide +kernel
theorem bc_ok {b : Int} (hb : 0 ≤ b ∧ b < 4096) : an (bc5 (bc4 (bc3 (bc2 (bc1 b))))) 63 = mOnes b := by
  have e : b = ((⟨b.toNat, by omega⟩ : Fin 4096).val : Int) := (Int.toNat_of_nonneg hb.1).symm
  rw [e]
  exact bc_all _
section
variable {E : gE} {d : Nat} {h : gH} {b : Int}
theorem c_bitCount (hb : 0 ≤ b ∧ b < 4096) : CALL E iJ13_bitCount d 0 0 [vI b] h (qR (vI (mOnes b)) h) := by
  have fin := bc_ok hb
  show GO E iJ13_bitCount _ _ _ 0 [some (vI b)] [] _ _
  refine g_iload_n (q := 1) dJ13_bitCount_0 rfl rfl ?_
  refine g_iload_n (q := 2) dJ13_bitCount_1 rfl rfl ?_
  refine g_iconst (q := 3) dJ13_bitCount_2 rfl ?_
  refine g_iushr (q := 4) dJ13_bitCount_3 rfl ?_
  refine GO.topR ?_
  refine g_ldcw (a := 1431655765) (q := 7) dJ13_bitCount_4 q1010 (by decide) rfl ?_
  refine g_iand (q := 8) dJ13_bitCount_7 rfl ?_
  refine GO.topR ?_
  refine g_isub (q := 9) dJ13_bitCount_8 rfl ?_
  generalize hx1 : b - an (ush b 1) 1431655765 = x1
  refine g_istore_n (q := 10) dJ13_bitCount_9 gs0 rfl ?_
  refine g_iload_n (q := 11) dJ13_bitCount_10 rfl rfl ?_
  refine g_ldcw (a := 858993459) (q := 14) dJ13_bitCount_11 q1011 (by decide) rfl ?_
  refine g_iand (q := 15) dJ13_bitCount_14 rfl ?_
  refine GO.topR ?_
  refine g_iload_n (q := 16) dJ13_bitCount_15 rfl rfl ?_
  refine g_iconst (q := 17) dJ13_bitCount_16 rfl ?_
  refine g_iushr (q := 18) dJ13_bitCount_17 rfl ?_
  refine GO.topR ?_
  refine g_ldcw (a := 858993459) (q := 21) dJ13_bitCount_18 q1011 (by decide) rfl ?_
  refine g_iand (q := 22) dJ13_bitCount_21 rfl ?_
  refine GO.topR ?_
  refine g_iadd (q := 23) dJ13_bitCount_22 rfl ?_
  generalize hx2 : an x1 858993459 + an (ush x1 2) 858993459 = x2
  refine g_istore_n (q := 24) dJ13_bitCount_23 gs0 rfl ?_
  refine g_iload_n (q := 25) dJ13_bitCount_24 rfl rfl ?_
  refine g_iload_n (q := 26) dJ13_bitCount_25 rfl rfl ?_
  refine g_iconst (q := 27) dJ13_bitCount_26 rfl ?_
  refine g_iushr (q := 28) dJ13_bitCount_27 rfl ?_
  refine GO.topR ?_
  refine g_iadd (q := 29) dJ13_bitCount_28 rfl ?_
  refine g_ldcw (a := 252645135) (q := 32) dJ13_bitCount_29 q1012 (by decide) rfl ?_
  refine g_iand (q := 33) dJ13_bitCount_32 rfl ?_
  refine GO.topR ?_
  generalize hx3 : (Int32.ofInt (x2 + ush x2 4) &&& Int32.ofInt 252645135).toInt = x3
  refine g_istore_n (q := 34) dJ13_bitCount_33 gs0 rfl ?_
  refine g_iload_n (q := 35) dJ13_bitCount_34 rfl rfl ?_
  refine g_iload_n (q := 36) dJ13_bitCount_35 rfl rfl ?_
  refine g_bipush (q := 38) dJ13_bitCount_36 rfl ?_
  refine g_iushr (q := 39) dJ13_bitCount_38 rfl ?_
  refine GO.topR ?_
  refine g_iadd (q := 40) dJ13_bitCount_39 rfl ?_
  generalize hx4 : x3 + ush x3 8 = x4
  refine g_istore_n (q := 41) dJ13_bitCount_40 gs0 rfl ?_
  refine g_iload_n (q := 42) dJ13_bitCount_41 rfl rfl ?_
  refine g_iload_n (q := 43) dJ13_bitCount_42 rfl rfl ?_
  refine g_bipush (q := 45) dJ13_bitCount_43 rfl ?_
  refine g_iushr (q := 46) dJ13_bitCount_45 rfl ?_
  refine GO.topR ?_
  refine g_iadd (q := 47) dJ13_bitCount_46 rfl ?_
  generalize hx5 : x4 + ush x4 16 = x5
  refine g_istore_n (q := 48) dJ13_bitCount_47 gs0 rfl ?_
  refine g_iload_n (q := 49) dJ13_bitCount_48 rfl rfl ?_
  refine g_bipush (q := 51) dJ13_bitCount_49 rfl ?_
  refine g_iand (q := 52) dJ13_bitCount_51 rfl ?_
  refine GO.topR ?_
  exact g_iret dJ13_bitCount_52 rfl ⟨rI (by subst hx1; subst hx2; subst hx3; subst hx4; subst hx5; exact fin), rfl⟩
end
