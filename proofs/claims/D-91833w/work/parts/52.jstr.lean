/-! THE JDK: String.length, String.charAt -/
set_option maxRecDepth 100000
theorem shr0 (x : Int32) : x >>> (Int32.ofInt 0 &&& 31) = x := by
  refine Int32.toBitVec_inj.mp ?_
  rw [Int32.toBitVec_shiftRight]
  show x.toBitVec.sshiftRight 0 = _
  simp
theorem nar_c0 {x : Int} (h0 : 0 ≤ x) (h1 : x < 65536) : (Int32.ofInt x).toUInt32.toUInt16.toUInt32.toInt32 = Int32.ofInt x := by
  refine Int32.toBitVec_inj.mp ?_
  refine BitVec.eq_of_toNat_eq ?_
  show ((Int32.ofInt x).toUInt32.toUInt16.toUInt32).toNat = (Int32.ofInt x).toBitVec.toNat
  rw [UInt16.toNat_toUInt32, UInt32.toNat_toUInt16]
  show (Int32.ofInt x).toBitVec.toNat % 2 ^ 16 = _
  rw [Int32.toBitVec_ofInt, BitVec.toNat_ofInt]
  omega
theorem nar_c {x : Int} (h0 : 0 ≤ x) (h1 : x < 65536) : narrow .char (vI x) = vI x := by
  show Value.int ((Int32.ofInt x).toUInt32.toUInt16.toUInt32.toInt32) = _
  rw [nar_c0 h0 h1]
  rfl
section
variable {E : gE} {d rc rs a b : Nat} {h : gH} {bs : List Int} {i n : Int}
theorem c_coder (ok : gOK E) (hs : STR E a bs) : CALL E iJ4_coder d 0 0 [.ref a] h (qR (vI 0) h) := by
  show GO E iJ4_coder _ _ _ 0 [some (.ref a)] [] _ _
  refine g_gets (q := 3) dJ4_coder_0 q666 (STA_CS ok) rfl ?_
  refine g_if_eq (t := 13) (q := 6) dJ4_coder_3 (by decide) rfl (by first | assumption | exact in32_gB | exact in32_gCmp | (unfold in32; omega)) (fun c3 => absurd c3 (by decide)) (fun c3 => ?_)
  refine g_aload_n (q := 7) dJ4_coder_6 rfl rfl ?_
  refine g_getO (q := 10) dJ4_coder_7 q1964 (hs.2.1) rfl ?_
  refine g_goto (t := 14) dJ4_coder_10 (by decide) ?_
  exact g_ireturn dJ4_coder_14 rfl rfl ⟨rfl, rfl⟩
theorem c_slen (hs : STR E a bs) : CALL E iJ4_length (d + 1) 0 0 [.ref a] h (qR (vI bs.length) h) := by
  refine GO.ok fun ok => ?_
  obtain ⟨t, h1, h2⟩ := hs.2.2.2
  show GO E iJ4_length _ _ _ 0 [some (.ref a)] [] _ _
  refine g_aload_n (q := 1) dJ4_length_0 rfl rfl ?_
  refine g_getO (q := 4) dJ4_length_1 q1963 (h1) rfl ?_
  refine g_tlen (q := 5) dJ4_length_4 (h2) rfl ?_
  refine g_aload_n (q := 6) dJ4_length_5 rfl rfl ?_
  refine g_cvO (I' := iJ4_coder) (mc := 0) (ms := 0) (rc := 0) (rs := 0) (q := 9) dJ4_length_6 q662 q663 q664 gcJ4_coder (hs.1) (c_coder ok hs) rfl rfl ?_
  refine g_ishr (q := 10) dJ4_length_9 rfl ?_
  rw [shr0]
  exact g_iret dJ4_length_10 rfl ⟨rfl, rfl⟩
theorem c_isLatin1 (ok : gOK E) (hs : STR E a bs) : CALL E iJ4_isLatin1 d 0 0 [.ref a] h (qR (vI 1) h) := by
  show GO E iJ4_isLatin1 _ _ _ 0 [some (.ref a)] [] _ _
  refine g_gets (q := 3) dJ4_isLatin1_0 q666 (STA_CS ok) rfl ?_
  refine g_if_eq (t := 17) (q := 6) dJ4_isLatin1_3 (by decide) rfl (by first | assumption | exact in32_gB | exact in32_gCmp | (unfold in32; omega)) (fun c3 => absurd c3 (by decide)) (fun c3 => ?_)
  refine g_aload_n (q := 7) dJ4_isLatin1_6 rfl rfl ?_
  refine g_getO (q := 10) dJ4_isLatin1_7 q1964 (hs.2.1) rfl ?_
  refine g_if_ne (t := 17) (q := 13) dJ4_isLatin1_10 (by decide) rfl (by first | assumption | exact in32_gB | exact in32_gCmp | (unfold in32; omega)) (fun c10 => ?_) (fun c10 => ?_)
  · exact absurd rfl c10
  · refine g_iconst (q := 14) dJ4_isLatin1_13 rfl ?_
    refine g_goto (t := 18) dJ4_isLatin1_14 (by decide) ?_
    exact g_zret1 dJ4_isLatin1_18 rfl ⟨rfl, rfl⟩
theorem c_checkIdx {v : Value} (hv : gR v) (h0 : 0 ≤ i) (h1 : i < n) (h2 : n < 2147483648) : CALL E iJ6_checkIndex d 0 0 [vI i, vI n, v] h (qR (vI i) h) := by
  show GO E iJ6_checkIndex _ _ _ 0 [some (vI i), some (vI n), some (v)] [] _ _
  refine g_iload_n (q := 1) dJ6_checkIndex_0 rfl rfl ?_
  refine g_if_lt (t := 9) (q := 4) dJ6_checkIndex_1 (by decide) rfl (by first | assumption | exact in32_gB | exact in32_gCmp | (unfold in32; omega)) (fun c1 => ?_) (fun c1 => ?_)
  · exact absurd c1 (by omega)
  · refine g_iload_n (q := 5) dJ6_checkIndex_4 rfl rfl ?_
    refine g_iload_n (q := 6) dJ6_checkIndex_5 rfl rfl ?_
    refine g_icmp_lt (t := 16) (q := 9) dJ6_checkIndex_6 (by decide) rfl (by first | assumption | exact in32_gB | exact in32_gCmp | (unfold in32; omega)) (by first | assumption | exact in32_gB | exact in32_gCmp | (unfold in32; omega)) (fun c6 => ?_) (fun c6 => ?_)
    · refine g_iload_n (q := 17) dJ6_checkIndex_16 rfl rfl ?_
      exact g_iret dJ6_checkIndex_17 rfl ⟨rfl, rfl⟩
    · exact absurd c6 (by omega)
theorem c_checkIdxS (h0 : 0 ≤ i) (h1 : i < n) (h2 : n < 2147483648) : CALL E iJ4_checkIndex (d + 1) 0 0 [vI i, vI n] h (qV h) := by
  refine GO.ok fun ok => ?_
  obtain ⟨v, hv, hS⟩ := STA_SF ok
  rcases hv with rfl | ⟨y, rfl⟩
  · show GO E iJ4_checkIndex _ _ _ 0 [some (vI i), some (vI n)] [] _ _
    refine g_iload_n (q := 1) dJ4_checkIndex_0 rfl rfl ?_
    refine g_iload_n (q := 2) dJ4_checkIndex_1 rfl rfl ?_
    refine g_gets (q := 5) dJ4_checkIndex_2 q682 (hS) rfl ?_
    refine g_cs (I' := iJ6_checkIndex) (mc := 0) (ms := 0) (rc := 0) (rs := 0) (q := 8) dJ4_checkIndex_5 q684 q685 gcJ6_checkIndex (c_checkIdx gR_null h0 h1 h2) rfl rfl ?_
    refine g_pop (q := 9) dJ4_checkIndex_8 rfl ?_
    exact g_vret dJ4_checkIndex_9 rfl ⟨rfl, rfl⟩
  · show GO E iJ4_checkIndex _ _ _ 0 [some (vI i), some (vI n)] [] _ _
    refine g_iload_n (q := 1) dJ4_checkIndex_0 rfl rfl ?_
    refine g_iload_n (q := 2) dJ4_checkIndex_1 rfl rfl ?_
    refine g_gets (q := 5) dJ4_checkIndex_2 q682 (hS) rfl ?_
    refine g_cs (I' := iJ6_checkIndex) (mc := 0) (ms := 0) (rc := 0) (rs := 0) (q := 8) dJ4_checkIndex_5 q684 q685 gcJ6_checkIndex (c_checkIdx gR_ref h0 h1 h2) rfl rfl ?_
    refine g_pop (q := 9) dJ4_checkIndex_8 rfl ?_
    exact g_vret dJ4_checkIndex_9 rfl ⟨rfl, rfl⟩
theorem c_charAt1 (h2 : TAB E .byte b bs.length (fun j => vI (bs.getD j 0))) (hb : bs.length < 100 ∧ ∀ x ∈ bs, 0 ≤ x ∧ x < 128) (h0 : 0 ≤ i) (h1 : i < bs.length) : CALL E iJ5_charAt (d + 2) 0 0 [.ref b, vI i] h (qR (vI (bs.getD i.toNat 0)) h) := by
  have hx : 0 ≤ bs.getD i.toNat 0 ∧ bs.getD i.toNat 0 < 128 := by
    rw [List.getD_eq_getElem?_getD, List.getElem?_eq_getElem (show i.toNat < bs.length by omega)]
    exact hb.2 _ (List.getElem_mem _)
  show GO E iJ5_charAt _ _ _ 0 [some (.ref b), some (vI i)] [] _ _
  refine g_iload_n (q := 1) dJ5_charAt_0 rfl rfl ?_
  refine g_aload_n (q := 2) dJ5_charAt_1 rfl rfl ?_
  refine g_tlen (q := 3) dJ5_charAt_2 (h2) rfl ?_
  refine g_csV (I' := iJ4_checkIndex) (mc := 0) (ms := 0) (rc := 0) (rs := 0) (q := 6) dJ5_charAt_3 q679 q680 gcJ4_checkIndex (c_checkIdxS h0 h1 (by omega)) rfl rfl ?_
  refine g_aload_n (q := 7) dJ5_charAt_6 rfl rfl ?_
  refine g_iload_n (q := 8) dJ5_charAt_7 rfl rfl ?_
  refine g_tbald (q := 9) dJ5_charAt_8 (h2) (by omega) (by omega) (by omega) rfl ?_
  refine g_sipush (q := 12) dJ5_charAt_9 rfl ?_
  refine g_iand (q := 13) dJ5_charAt_12 rfl ?_
  refine GO.topR ?_
  rw [and255, Int.emod_eq_of_lt hx.1 (by omega)]
  refine g_i2c (q := 14) dJ5_charAt_13 (by omega) (by omega) rfl ?_
  exact g_ireturn dJ5_charAt_14 rfl (nar_c hx.1 (by omega)) ⟨rfl, rfl⟩
theorem c_charAt (hs : STR E a bs) (h0 : 0 ≤ i) (h1 : i < bs.length) : CALL E iJ4_charAt (d + 3) 0 0 [.ref a, vI i] h (qR (vI (bs.getD i.toNat 0)) h) := by
  have hb := hs.2.2.1
  have hx : 0 ≤ bs.getD i.toNat 0 ∧ bs.getD i.toNat 0 < 128 := by
    rw [List.getD_eq_getElem?_getD, List.getElem?_eq_getElem (show i.toNat < bs.length by omega)]
    exact hb.2 _ (List.getElem_mem _)
  refine GO.ok fun ok => ?_
  obtain ⟨t, h2, h3⟩ := hs.2.2.2
  show GO E iJ4_charAt _ _ _ 0 [some (.ref a), some (vI i)] [] _ _
  refine g_aload_n (q := 1) dJ4_charAt_0 rfl rfl ?_
  refine g_cvO (I' := iJ4_isLatin1) (mc := 0) (ms := 0) (rc := 0) (rs := 0) (q := 4) dJ4_charAt_1 q672 q673 q674 gcJ4_isLatin1 (hs.1) (c_isLatin1 ok hs) rfl rfl ?_
  refine g_if_eq (t := 16) (q := 7) dJ4_charAt_4 (by decide) rfl (by first | assumption | exact in32_gB | exact in32_gCmp | (unfold in32; omega)) (fun c4 => ?_) (fun c4 => ?_)
  · exact absurd c4 (by decide)
  · refine g_aload_n (q := 8) dJ4_charAt_7 rfl rfl ?_
    refine g_getO (q := 11) dJ4_charAt_8 q1963 (h2) rfl ?_
    refine g_iload_n (q := 12) dJ4_charAt_11 rfl rfl ?_
    refine g_cs (I' := iJ5_charAt) (mc := 0) (ms := 0) (rc := 0) (rs := 0) (q := 15) dJ4_charAt_12 q676 q677 gcJ5_charAt (c_charAt1 h3 hb h0 h1) rfl rfl ?_
    exact g_ireturn dJ4_charAt_15 rfl (nar_c hx.1 (by omega)) ⟨rfl, rfl⟩
end
