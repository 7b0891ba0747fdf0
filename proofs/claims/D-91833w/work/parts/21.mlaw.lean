/-! THE REFERENCE: links, laws -/
set_option maxRecDepth 100000
section
variable {E : gE} {d rc rs am : Nat} {G : gH}
variable {th si lo td sz pa fr tk vl fk fp hdt kl kn cd bp bl : Int} {w hs bk iW iH iB iL iS tp fv fsh lt cp md sw nd mn my wd nm mv : Int → Int}
variable {s a b r i k v has ea law B e : Int}
theorem c_linkAt {h : gH} (hs : in32 s) : CALL E iX6_linkAt d 0 0 [vI s, vI a, vI b] h (qR (vI (lkA s a b)) h) := by
  show GO E iX6_linkAt _ _ _ 0 [some (vI s), some (vI a), some (vI b)] [] _ _
  refine g_iload_n (q := 1) dX6_linkAt_0 rfl rfl ?_
  refine g_iconst (q := 2) dX6_linkAt_1 rfl ?_
  refine g_icmp_ne (t := 18) (q := 5) dX6_linkAt_2 (by decide) rfl (by first | assumption | exact in32_gB | exact in32_gCmp | (unfold in32; omega)) (by first | assumption | exact in32_gB | exact in32_gCmp | (unfold in32; omega)) (fun c2 => ?_) (fun c2 => ?_)
  · refine g_sipush (q := 21) dX6_linkAt_18 rfl ?_
    refine g_iload_n (q := 22) dX6_linkAt_21 rfl rfl ?_
    refine g_imul (q := 23) dX6_linkAt_22 rfl ?_
    refine g_bipush (q := 25) dX6_linkAt_23 rfl ?_
    refine g_iload_n (q := 26) dX6_linkAt_25 rfl rfl ?_
    refine g_imul (q := 27) dX6_linkAt_26 rfl ?_
    refine g_iadd (q := 28) dX6_linkAt_27 rfl ?_
    refine g_iload_n (q := 29) dX6_linkAt_28 rfl rfl ?_
    refine g_iadd (q := 30) dX6_linkAt_29 rfl ?_
    exact g_iret dX6_linkAt_30 rfl ⟨rI (by unfold lkA; first | rw [if_pos c2] | rw [if_neg c2]), rfl⟩
  · refine g_sipush (q := 8) dX6_linkAt_5 rfl ?_
    refine g_bipush (q := 10) dX6_linkAt_8 rfl ?_
    refine g_iload_n (q := 11) dX6_linkAt_10 rfl rfl ?_
    refine g_imul (q := 12) dX6_linkAt_11 rfl ?_
    refine g_iadd (q := 13) dX6_linkAt_12 rfl ?_
    refine g_iload_n (q := 14) dX6_linkAt_13 rfl rfl ?_
    refine g_iadd (q := 15) dX6_linkAt_14 rfl ?_
    refine g_goto (t := 30) dX6_linkAt_15 (by decide) ?_
    exact g_iret dX6_linkAt_30 rfl ⟨rI (by unfold lkA; first | rw [if_pos c2] | rw [if_neg c2]), rfl⟩
theorem c_changes (h0 : 0 ≤ k) (h1 : k < 2016) (hh : HSok B hs) (hb : -1000000000000 ≤ v ∧ v ≤ 1000000000000) : CALL E iX6_changes (d + 1) 0 0 [.ref am, vI k, vL v] (mH E G am th w hs si lo bk iW iH iB iL iS tp td fv sz pa fr tk vl fk fp fsh hdt lt kl kn cp cd bp bl md sw nd mn my wd nm mv) (qV (mH E G am th w (mChg hs k v) si lo bk iW iH iB iL iS tp td fv sz pa fr tk vl fk fp fsh hdt lt kl kn cp cd bp bl md sw nd mn my wd nm mv)) := by
  have hk := hh.1 k h0 h1
  show GO E iX6_changes _ _ _ 0 [some (.ref am), some (vI k), some (vL v), none, none, none] [] _ _
  refine g_aload_n (q := 1) dX6_changes_0 rfl rfl ?_
  refine gm_get (k := 2) (q := 4) dX6_changes_1 q1396 (by decide) rfl rfl ?_
  refine g_iload_n (q := 5) dX6_changes_4 rfl rfl ?_
  refine g_iald (q := 6) dX6_changes_5 mA2 (by omega) (by omega) rfl ?_
  refine g_i2l (q := 7) dX6_changes_6 (by first | assumption | exact in32_gB | exact in32_gCmp | (unfold in32; omega)) rfl ?_
  refine g_lload_n (q := 8) dX6_changes_7 rfl rfl ?_
  refine g_ladd (q := 9) dX6_changes_8 rfl ?_
  refine g_lstore (q := 11) dX6_changes_9 gt4 rfl ?_
  refine g_aload_n (q := 12) dX6_changes_11 rfl rfl ?_
  refine gm_get (k := 2) (q := 15) dX6_changes_12 q1396 (by decide) rfl rfl ?_
  refine g_iload_n (q := 16) dX6_changes_15 rfl rfl ?_
  refine g_lconst0 (q := 17) dX6_changes_16 rfl ?_
  refine g_ldc2 (a := 1000) (q := 20) dX6_changes_17 q1631 (by decide) rfl ?_
  refine g_lload (q := 22) dX6_changes_20 rfl rfl ?_
  refine g_cs (I' := iJ3_min_2) (mc := 0) (ms := 0) (rc := 0) (rs := 0) (q := 25) dX6_changes_22 q1690 q1072 gcJ3_min_2 (c_minL (by unfold in64; omega) (by unfold in64; omega)) rfl rfl ?_
  refine g_cs (I' := iJ3_max_2) (mc := 0) (ms := 0) (rc := 0) (rs := 0) (q := 28) dX6_changes_25 q1691 q1075 gcJ3_max_2 (c_maxL (by unfold in64; omega) (by unfold in64; omega)) rfl rfl ?_
  refine g_l2i (q := 29) dX6_changes_28 rfl ?_
  refine gm_st2 (q := 30) dX6_changes_29 (by omega) (by omega)  rfl ?_
  exact g_vret dX6_changes_30 rfl ⟨rfl, rfl⟩
theorem c_isRowM (hr : in32 r) (hw : 0 ≤ w 2 ∧ w 2 ≤ 12) : CALL E iX6_isRow (d + 1) 0 0 [.ref am, vI r] (mH E G am th w hs si lo bk iW iH iB iL iS tp td fv sz pa fr tk vl fk fp fsh hdt lt kl kn cp cd bp bl md sw nd mn my wd nm mv) (qR (vI (gB (0 ≤ r ∧ r ≤ w 2 - 1))) (mH E G am th w hs si lo bk iW iH iB iL iS tp td fv sz pa fr tk vl fk fp fsh hdt lt kl kn cp cd bp bl md sw nd mn my wd nm mv)) := by
  have h1 := hr.1
  have h2 := hr.2
  show GO E iX6_isRow _ _ _ 0 [some (.ref am), some (vI r)] [] _ _
  refine g_iload_n (q := 1) dX6_isRow_0 rfl rfl ?_
  refine g_i2l (q := 2) dX6_isRow_1 (by first | assumption | exact in32_gB | exact in32_gCmp | (unfold in32; omega)) rfl ?_
  refine g_lconst0 (q := 3) dX6_isRow_2 rfl ?_
  refine g_aload_n (q := 4) dX6_isRow_3 rfl rfl ?_
  refine gm_get (k := 1) (q := 7) dX6_isRow_4 q1395 (by decide) rfl rfl ?_
  refine g_iconst (q := 8) dX6_isRow_7 rfl ?_
  refine g_iald (q := 9) dX6_isRow_8 mA1 (by omega) (by omega) rfl ?_
  refine g_iconst (q := 10) dX6_isRow_9 rfl ?_
  refine g_isub (q := 11) dX6_isRow_10 rfl ?_
  refine g_i2l (q := 12) dX6_isRow_11 (by first | assumption | exact in32_gB | exact in32_gCmp | (unfold in32; omega)) rfl ?_
  refine g_cs (I' := iX6_in) (mc := 0) (ms := 0) (rc := 0) (rs := 0) (q := 15) dX6_isRow_12 q1514 q1515 gcX6_in (c_inM (by unfold in64; omega) (by unfold in64; omega) (by unfold in64; omega)) rfl rfl ?_
  exact g_zret dX6_isRow_15 rfl ⟨rfl, rfl⟩
theorem c_isThingM (hr : in32 r) (hw : 0 ≤ w 1 ∧ w 1 ≤ 24) : CALL E iX6_isThing (d + 1) 0 0 [.ref am, vI r] (mH E G am th w hs si lo bk iW iH iB iL iS tp td fv sz pa fr tk vl fk fp fsh hdt lt kl kn cp cd bp bl md sw nd mn my wd nm mv) (qR (vI (gB (0 ≤ r ∧ r ≤ w 1 - 1))) (mH E G am th w hs si lo bk iW iH iB iL iS tp td fv sz pa fr tk vl fk fp fsh hdt lt kl kn cp cd bp bl md sw nd mn my wd nm mv)) := by
  have h1 := hr.1
  have h2 := hr.2
  show GO E iX6_isThing _ _ _ 0 [some (.ref am), some (vI r)] [] _ _
  refine g_iload_n (q := 1) dX6_isThing_0 rfl rfl ?_
  refine g_i2l (q := 2) dX6_isThing_1 (by first | assumption | exact in32_gB | exact in32_gCmp | (unfold in32; omega)) rfl ?_
  refine g_lconst0 (q := 3) dX6_isThing_2 rfl ?_
  refine g_aload_n (q := 4) dX6_isThing_3 rfl rfl ?_
  refine gm_get (k := 1) (q := 7) dX6_isThing_4 q1395 (by decide) rfl rfl ?_
  refine g_iconst (q := 8) dX6_isThing_7 rfl ?_
  refine g_iald (q := 9) dX6_isThing_8 mA1 (by omega) (by omega) rfl ?_
  refine g_iconst (q := 10) dX6_isThing_9 rfl ?_
  refine g_isub (q := 11) dX6_isThing_10 rfl ?_
  refine g_i2l (q := 12) dX6_isThing_11 (by first | assumption | exact in32_gB | exact in32_gCmp | (unfold in32; omega)) rfl ?_
  refine g_cs (I' := iX6_in) (mc := 0) (ms := 0) (rc := 0) (rs := 0) (q := 15) dX6_isThing_12 q1514 q1515 gcX6_in (c_inM (by unfold in64; omega) (by unfold in64; omega) (by unfold in64; omega)) rfl rfl ?_
  exact g_zret dX6_isThing_15 rfl ⟨rfl, rfl⟩
theorem c_manyOf (h0 : 0 ≤ r) (h1 : r < 12) : CALL E iX6_manyOf d 0 0 [.ref am, vI r] (mH E G am th w hs si lo bk iW iH iB iL iS tp td fv sz pa fr tk vl fk fp fsh hdt lt kl kn cp cd bp bl md sw nd mn my wd nm mv) (qR (vI (w (34 + 14 * r))) (mH E G am th w hs si lo bk iW iH iB iL iS tp td fv sz pa fr tk vl fk fp fsh hdt lt kl kn cp cd bp bl md sw nd mn my wd nm mv)) := by
  show GO E iX6_manyOf _ _ _ 0 [some (.ref am), some (vI r)] [] _ _
  refine g_aload_n (q := 1) dX6_manyOf_0 rfl rfl ?_
  refine gm_get (k := 1) (q := 4) dX6_manyOf_1 q1395 (by decide) rfl rfl ?_
  refine g_bipush (q := 6) dX6_manyOf_4 rfl ?_
  refine g_bipush (q := 8) dX6_manyOf_6 rfl ?_
  refine g_iload_n (q := 9) dX6_manyOf_8 rfl rfl ?_
  refine g_imul (q := 10) dX6_manyOf_9 rfl ?_
  refine g_iadd (q := 11) dX6_manyOf_10 rfl ?_
  refine g_iald (q := 12) dX6_manyOf_11 mA1 (by omega) (by omega) rfl ?_
  exact g_iret dX6_manyOf_12 rfl ⟨rfl, rfl⟩
theorem c_thingOf (h0 : 0 ≤ r) (h1 : r < 12) (h2 : 0 ≤ i) (h3 : i < 12) : CALL E iX6_thingOf d 0 0 [.ref am, vI r, vI i] (mH E G am th w hs si lo bk iW iH iB iL iS tp td fv sz pa fr tk vl fk fp fsh hdt lt kl kn cp cd bp bl md sw nd mn my wd nm mv) (qR (vI (w (34 + 14 * r + 1 + i))) (mH E G am th w hs si lo bk iW iH iB iL iS tp td fv sz pa fr tk vl fk fp fsh hdt lt kl kn cp cd bp bl md sw nd mn my wd nm mv)) := by
  show GO E iX6_thingOf _ _ _ 0 [some (.ref am), some (vI r), some (vI i)] [] _ _
  refine g_aload_n (q := 1) dX6_thingOf_0 rfl rfl ?_
  refine gm_get (k := 1) (q := 4) dX6_thingOf_1 q1395 (by decide) rfl rfl ?_
  refine g_bipush (q := 6) dX6_thingOf_4 rfl ?_
  refine g_bipush (q := 8) dX6_thingOf_6 rfl ?_
  refine g_iload_n (q := 9) dX6_thingOf_8 rfl rfl ?_
  refine g_imul (q := 10) dX6_thingOf_9 rfl ?_
  refine g_iadd (q := 11) dX6_thingOf_10 rfl ?_
  refine g_iconst (q := 12) dX6_thingOf_11 rfl ?_
  refine g_iadd (q := 13) dX6_thingOf_12 rfl ?_
  refine g_iload_n (q := 14) dX6_thingOf_13 rfl rfl ?_
  refine g_iadd (q := 15) dX6_thingOf_14 rfl ?_
  refine g_iald (q := 16) dX6_thingOf_15 mA1 (by omega) (by omega) rfl ?_
  exact g_iret dX6_thingOf_16 rfl ⟨rfl, rfl⟩
theorem c_partOf (hw : WFw w) (hh : HSok B hs) (hB : B ≤ 1000000000) (h0 : 0 ≤ k) (h1 : k < 300) (ha : 0 ≤ has ∧ has ≤ 1000) (he : 0 ≤ ea ∧ ea ≤ 9) : CALL E iX6_partOf d 0 0 [.ref am, vI k, vI has, vI ea] (mH E G am th w hs si lo bk iW iH iB iL iS tp td fv sz pa fr tk vl fk fp fsh hdt lt kl kn cp cd bp bl md sw nd mn my wd nm mv) (qR (vL (partV w hs k has ea)) (mH E G am th w hs si lo bk iW iH iB iL iS tp td fv sz pa fr tk vl fk fp fsh hdt lt kl kn cp cd bp bl md sw nd mn my wd nm mv)) := by
  have hp := hw.parts h0 h1
  have ht := hh.2.2
  have ho := hh.2.1
  show GO E iX6_partOf _ _ _ 0 [some (.ref am), some (vI k), some (vI has), some (vI ea)] [] _ _
  refine g_aload_n (q := 1) dX6_partOf_0 rfl rfl ?_
  refine gm_get (k := 1) (q := 4) dX6_partOf_1 q1395 (by decide) rfl rfl ?_
  refine g_sipush (q := 7) dX6_partOf_4 rfl ?_
  refine g_iconst (q := 8) dX6_partOf_7 rfl ?_
  refine g_iload_n (q := 9) dX6_partOf_8 rfl rfl ?_
  refine g_imul (q := 10) dX6_partOf_9 rfl ?_
  refine g_iadd (q := 11) dX6_partOf_10 rfl ?_
  refine g_iconst (q := 12) dX6_partOf_11 rfl ?_
  refine g_iadd (q := 13) dX6_partOf_12 rfl ?_
  refine g_iald (q := 14) dX6_partOf_13 mA1 (by omega) (by omega) rfl ?_
  refine g_tsw dX6_partOf_14 (by first | assumption | exact in32_gB | exact in32_gCmp | (unfold in32; omega)) (fun c14 => ⟨87, by decide, ?_⟩) (fun j14 c14 c14h => ?_)
  · refine g_aload_n (q := 88) dX6_partOf_87 rfl rfl ?_
    refine gm_get (k := 2) (q := 91) dX6_partOf_88 q1396 (by decide) rfl rfl ?_
    refine g_sipush (q := 94) dX6_partOf_91 rfl ?_
    refine g_iald (q := 95) dX6_partOf_94 mA2 (by omega) (by omega) rfl ?_
    refine g_bipush (q := 97) dX6_partOf_95 rfl ?_
    refine g_irem (q := 98) dX6_partOf_97 (by first | assumption | exact in32_gB | exact in32_gCmp | (unfold in32; omega)) (by first | assumption | exact in32_gB | exact in32_gCmp | (unfold in32; omega)) (by omega) rfl ?_
    refine g_i2l (q := 99) dX6_partOf_98 (by rw [Int.tmod_eq_emod_of_nonneg ho.1]; unfold in32; omega) rfl ?_
    exact g_lret dX6_partOf_99 rfl ⟨rL (by unfold partV; repeat' (first | rw [if_pos (by omega)] | rw [if_neg (by omega)])), rfl⟩
  · rcases j14 with _ | _ | _ | _ | _ | j14
    · refine ⟨34, 48, rfl, by decide, ?_⟩
      refine g_aload_n (q := 49) dX6_partOf_48 rfl rfl ?_
      refine gm_get (k := 1) (q := 52) dX6_partOf_49 q1395 (by decide) rfl rfl ?_
      refine g_sipush (q := 55) dX6_partOf_52 rfl ?_
      refine g_iconst (q := 56) dX6_partOf_55 rfl ?_
      refine g_iload_n (q := 57) dX6_partOf_56 rfl rfl ?_
      refine g_imul (q := 58) dX6_partOf_57 rfl ?_
      refine g_iadd (q := 59) dX6_partOf_58 rfl ?_
      refine g_iconst (q := 60) dX6_partOf_59 rfl ?_
      refine g_iadd (q := 61) dX6_partOf_60 rfl ?_
      refine g_iald (q := 62) dX6_partOf_61 mA1 (by omega) (by omega) rfl ?_
      refine g_i2l (q := 63) dX6_partOf_62 (by first | assumption | exact in32_gB | exact in32_gCmp | (unfold in32; omega)) rfl ?_
      exact g_lret dX6_partOf_63 rfl ⟨rL (by unfold partV; repeat' (first | rw [if_pos (by omega)] | rw [if_neg (by omega)])), rfl⟩
    · refine ⟨50, 64, rfl, by decide, ?_⟩
      refine g_iload_n (q := 65) dX6_partOf_64 rfl rfl ?_
      refine g_i2l (q := 66) dX6_partOf_65 (by first | assumption | exact in32_gB | exact in32_gCmp | (unfold in32; omega)) rfl ?_
      exact g_lret dX6_partOf_66 rfl ⟨rL (by unfold partV; repeat' (first | rw [if_pos (by omega)] | rw [if_neg (by omega)])), rfl⟩
    · refine ⟨53, 67, rfl, by decide, ?_⟩
      refine g_sipush (q := 70) dX6_partOf_67 rfl ?_
      refine g_iload_n (q := 71) dX6_partOf_70 rfl rfl ?_
      refine g_isub (q := 72) dX6_partOf_71 rfl ?_
      refine g_i2l (q := 73) dX6_partOf_72 (by first | assumption | exact in32_gB | exact in32_gCmp | (unfold in32; omega)) rfl ?_
      exact g_lret dX6_partOf_73 rfl ⟨rL (by unfold partV; repeat' (first | rw [if_pos (by omega)] | rw [if_neg (by omega)])), rfl⟩
    · refine ⟨60, 74, rfl, by decide, ?_⟩
      refine g_iload_n (q := 75) dX6_partOf_74 rfl rfl ?_
      refine g_i2l (q := 76) dX6_partOf_75 (by first | assumption | exact in32_gB | exact in32_gCmp | (unfold in32; omega)) rfl ?_
      exact g_lret dX6_partOf_76 rfl ⟨rL (by unfold partV; repeat' (first | rw [if_pos (by omega)] | rw [if_neg (by omega)])), rfl⟩
    · refine ⟨63, 77, rfl, by decide, ?_⟩
      refine g_aload_n (q := 78) dX6_partOf_77 rfl rfl ?_
      refine gm_get (k := 2) (q := 81) dX6_partOf_78 q1396 (by decide) rfl rfl ?_
      refine g_sipush (q := 84) dX6_partOf_81 rfl ?_
      refine g_iald (q := 85) dX6_partOf_84 mA2 (by omega) (by omega) rfl ?_
      refine g_i2l (q := 86) dX6_partOf_85 (by first | assumption | exact in32_gB | exact in32_gCmp | (unfold in32; omega)) rfl ?_
      exact g_lret dX6_partOf_86 rfl ⟨rL (by unfold partV; repeat' (first | rw [if_pos (by omega)] | rw [if_neg (by omega)])), rfl⟩
    · exact absurd c14h (by omega)
end
