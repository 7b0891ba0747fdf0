/-! THE REFERENCE: support, slips, learning, copies -/
set_option maxRecDepth 100000
section
variable {E : gE} {d rc rs am : Nat} {G : gH}
variable {th si lo td sz pa fr tk vl fk fp hdt kl kn cd bp bl : Int} {w hs bk iW iH iB iL iS tp fv fsh lt cp md sw nd mn my wd nm mv : Int → Int}
variable {s a b r i k v e B c : Int} {Q : Outcome → gH → Prop}
theorem g_iretR {E : gE} {I : gI} {d rc rs pc : Nat} {lv : List (Option Value)} {h : gH} {x : Int32} (hd : decode I.2.1 pc = .ok (.ireturn, 1)) (hr : I.2.2.2.1 = some .int) (hq : Q (.returned (some (.int x))) h) : GO E I d rc rs pc lv [.int x] h Q := g_ireturn hd hr rfl hq
theorem c_supportOf (hw : WFw w) (hh : HSok B hs) (hr : 0 ≤ r) (hr1 : r < w 2) (hi : 0 ≤ i) (hi1 : i < w (34 + 14 * r)) : CALL E iX6_supportOf (d + 1) 0 0 [.ref am, vI r, vI i] (mH E G am th w hs si lo bk iW iH iB iL iS tp td fv sz pa fr tk vl fk fp fsh hdt lt kl kn cp cd bp bl md sw nd mn my wd nm mv) (qR (vI (mSup w hs r i)) (mH E G am th w hs si lo bk iW iH iB iL iS tp td fv sz pa fr tk vl fk fp fsh hdt lt kl kn cp cd bp bl md sw nd mn my wd nm mv)) := by
  have h1 := hw.1
  have h12 := hw.2.1
  have h2 := hw.row hr hr1
  have tb := hw.thing hr hr1 hi hi1
  have k3 := lk_in (s := 3) (a := w (34 + 14 * r + 1 + i)) (b := i) (by omega) (by omega) tb.1 (by omega) hi (by omega) (by omega)
  have hS := mSum_in hw hh hr hr1 hi hi1
  show GO E iX6_supportOf _ _ _ 0 [some (.ref am), some (vI r), some (vI i), none, none, none, none] [] _ _
  by_cases h0 : 0 < i
  · have ta := hw.thing hr hr1 (i := i - 1) (by omega) (by omega)
    have k0 := lk_in (s := 0) (a := w (34 + 14 * r + 1 + (i - 1))) (b := w (34 + 14 * r + 1 + i)) (by omega) (by omega) ta.1 (by omega) tb.1 (by omega) (by omega)
    have k1 := lk_in (s := 0 + 1) (a := w (34 + 14 * r + 1 + (i - 1))) (b := w (34 + 14 * r + 1 + i)) (by omega) (by omega) ta.1 (by omega) tb.1 (by omega) (by omega)
    have k2 := lk_in (s := 0 + 1 + 1) (a := w (34 + 14 * r + 1 + (i - 1))) (b := w (34 + 14 * r + 1 + i)) (by omega) (by omega) ta.1 (by omega) tb.1 (by omega) (by omega)
    unfold mSup
    unfold mSum thg at hS ⊢
    rw [if_pos h0] at hS ⊢
    refine g_aload_n (q := 1) dX6_supportOf_0 rfl rfl ?_
    refine g_iload_n (q := 2) dX6_supportOf_1 rfl rfl ?_
    refine g_iload_n (q := 3) dX6_supportOf_2 rfl rfl ?_
    refine g_cv (I' := iX6_thingOf) (mc := 0) (ms := 0) (rc := 0) (rs := 0) (ci := 7) (q := 6) dX6_supportOf_3 q1668 q1670 rfl qs64 gcX6_thingOf mO (c_thingOf hr (by omega) hi (by omega)) rfl rfl ?_
    refine g_istore_n (q := 7) dX6_supportOf_6 gs3 rfl ?_
    refine g_aload_n (q := 8) dX6_supportOf_7 rfl rfl ?_
    refine gm_get (k := 1) (q := 11) dX6_supportOf_8 q1395 (by decide) rfl rfl ?_
    refine g_bipush (q := 13) dX6_supportOf_11 rfl ?_
    refine g_iald (q := 14) dX6_supportOf_13 mA1 (by omega) (by omega) rfl ?_
    refine g_aload_n (q := 15) dX6_supportOf_14 rfl rfl ?_
    refine gm_get (k := 2) (q := 18) dX6_supportOf_15 q1396 (by decide) rfl rfl ?_
    refine g_iconst (q := 19) dX6_supportOf_18 rfl ?_
    refine g_iload_n (q := 20) dX6_supportOf_19 rfl rfl ?_
    refine g_iload_n (q := 21) dX6_supportOf_20 rfl rfl ?_
    refine g_cs (I' := iX6_linkAt) (mc := 0) (ms := 0) (rc := 0) (rs := 0) (q := 24) dX6_supportOf_21 q1672 q1673 gcX6_linkAt (c_linkAt (by unfold in32; omega)) rfl rfl ?_
    refine g_iald (q := 25) dX6_supportOf_24 mA2 k3.1 (by omega) rfl ?_
    refine g_imul (q := 26) dX6_supportOf_25 rfl ?_
    refine g_istore (q := 28) dX6_supportOf_26 gs4 rfl ?_
    refine g_iload_n (q := 29) dX6_supportOf_28 rfl rfl ?_
    refine g_if_le (t := 85) (q := 32) dX6_supportOf_29 (by decide) rfl (by first | assumption | exact in32_gB | exact in32_gCmp | (unfold in32; omega)) (fun c29 => ?_) (fun c29 => ?_)
    · exact absurd c29 (by omega)
    · refine g_aload_n (q := 33) dX6_supportOf_32 rfl rfl ?_
      refine g_iload_n (q := 34) dX6_supportOf_33 rfl rfl ?_
      refine g_iload_n (q := 35) dX6_supportOf_34 rfl rfl ?_
      refine g_iconst (q := 36) dX6_supportOf_35 rfl ?_
      refine g_isub (q := 37) dX6_supportOf_36 rfl ?_
      refine g_cv (I' := iX6_thingOf) (mc := 0) (ms := 0) (rc := 0) (rs := 0) (ci := 7) (q := 40) dX6_supportOf_37 q1668 q1670 rfl qs64 gcX6_thingOf mO (c_thingOf hr (by omega) (by omega) (by omega)) rfl rfl ?_
      refine g_istore (q := 42) dX6_supportOf_40 gs5 rfl ?_
      refine g_iconst (q := 43) dX6_supportOf_42 rfl ?_
      refine g_istore (q := 45) dX6_supportOf_43 gs6 rfl ?_
      refine g_iload (q := 47) dX6_supportOf_45 rfl rfl ?_
      refine g_iconst (q := 48) dX6_supportOf_47 rfl ?_
      refine g_icmp_ge (t := 85) (q := 51) dX6_supportOf_48 (by decide) rfl (by first | assumption | exact in32_gB | exact in32_gCmp | (unfold in32; omega)) (by first | assumption | exact in32_gB | exact in32_gCmp | (unfold in32; omega)) (fun c48 => absurd c48 (by decide)) (fun c48 => ?_)
      refine g_iload (q := 53) dX6_supportOf_51 rfl rfl ?_
      refine g_aload_n (q := 54) dX6_supportOf_53 rfl rfl ?_
      refine gm_get (k := 1) (q := 57) dX6_supportOf_54 q1395 (by decide) rfl rfl ?_
      refine g_iconst (q := 58) dX6_supportOf_57 rfl ?_
      refine g_iload (q := 60) dX6_supportOf_58 rfl rfl ?_
      refine g_iadd (q := 61) dX6_supportOf_60 rfl ?_
      refine g_iald (q := 62) dX6_supportOf_61 mA1 (by omega) (by omega) rfl ?_
      refine g_aload_n (q := 63) dX6_supportOf_62 rfl rfl ?_
      refine gm_get (k := 2) (q := 66) dX6_supportOf_63 q1396 (by decide) rfl rfl ?_
      refine g_iload (q := 68) dX6_supportOf_66 rfl rfl ?_
      refine g_iload (q := 70) dX6_supportOf_68 rfl rfl ?_
      refine g_iload_n (q := 71) dX6_supportOf_70 rfl rfl ?_
      refine g_cs (I' := iX6_linkAt) (mc := 0) (ms := 0) (rc := 0) (rs := 0) (q := 74) dX6_supportOf_71 q1672 q1673 gcX6_linkAt (c_linkAt (by unfold in32; omega)) rfl rfl ?_
      refine g_iald (q := 75) dX6_supportOf_74 mA2 (by first | exact k0.1 | exact k1.1 | exact k2.1) (by first | exact Int.lt_trans k0.2 (by decide) | exact Int.lt_trans k1.2 (by decide) | exact Int.lt_trans k2.2 (by decide)) rfl ?_
      refine g_imul (q := 76) dX6_supportOf_75 rfl ?_
      refine g_iadd (q := 77) dX6_supportOf_76 rfl ?_
      refine g_istore (q := 79) dX6_supportOf_77 gs4 rfl ?_
      refine g_iinc (q := 82) dX6_supportOf_79 rfl gs6 rfl ?_
      refine g_goto (t := 45) dX6_supportOf_82 (by decide) ?_
      refine g_iload (q := 47) dX6_supportOf_45 rfl rfl ?_
      refine g_iconst (q := 48) dX6_supportOf_47 rfl ?_
      refine g_icmp_ge (t := 85) (q := 51) dX6_supportOf_48 (by decide) rfl (by first | assumption | exact in32_gB | exact in32_gCmp | (unfold in32; omega)) (by first | assumption | exact in32_gB | exact in32_gCmp | (unfold in32; omega)) (fun c48 => absurd c48 (by decide)) (fun c48 => ?_)
      refine g_iload (q := 53) dX6_supportOf_51 rfl rfl ?_
      refine g_aload_n (q := 54) dX6_supportOf_53 rfl rfl ?_
      refine gm_get (k := 1) (q := 57) dX6_supportOf_54 q1395 (by decide) rfl rfl ?_
      refine g_iconst (q := 58) dX6_supportOf_57 rfl ?_
      refine g_iload (q := 60) dX6_supportOf_58 rfl rfl ?_
      refine g_iadd (q := 61) dX6_supportOf_60 rfl ?_
      refine g_iald (q := 62) dX6_supportOf_61 mA1 (by omega) (by omega) rfl ?_
      refine g_aload_n (q := 63) dX6_supportOf_62 rfl rfl ?_
      refine gm_get (k := 2) (q := 66) dX6_supportOf_63 q1396 (by decide) rfl rfl ?_
      refine g_iload (q := 68) dX6_supportOf_66 rfl rfl ?_
      refine g_iload (q := 70) dX6_supportOf_68 rfl rfl ?_
      refine g_iload_n (q := 71) dX6_supportOf_70 rfl rfl ?_
      refine g_cs (I' := iX6_linkAt) (mc := 0) (ms := 0) (rc := 0) (rs := 0) (q := 74) dX6_supportOf_71 q1672 q1673 gcX6_linkAt (c_linkAt (by unfold in32; omega)) rfl rfl ?_
      refine g_iald (q := 75) dX6_supportOf_74 mA2 (by first | exact k0.1 | exact k1.1 | exact k2.1) (by first | exact Int.lt_trans k0.2 (by decide) | exact Int.lt_trans k1.2 (by decide) | exact Int.lt_trans k2.2 (by decide)) rfl ?_
      refine g_imul (q := 76) dX6_supportOf_75 rfl ?_
      refine g_iadd (q := 77) dX6_supportOf_76 rfl ?_
      refine g_istore (q := 79) dX6_supportOf_77 gs4 rfl ?_
      refine g_iinc (q := 82) dX6_supportOf_79 rfl gs6 rfl ?_
      refine g_goto (t := 45) dX6_supportOf_82 (by decide) ?_
      refine g_iload (q := 47) dX6_supportOf_45 rfl rfl ?_
      refine g_iconst (q := 48) dX6_supportOf_47 rfl ?_
      refine g_icmp_ge (t := 85) (q := 51) dX6_supportOf_48 (by decide) rfl (by first | assumption | exact in32_gB | exact in32_gCmp | (unfold in32; omega)) (by first | assumption | exact in32_gB | exact in32_gCmp | (unfold in32; omega)) (fun c48 => absurd c48 (by decide)) (fun c48 => ?_)
      refine g_iload (q := 53) dX6_supportOf_51 rfl rfl ?_
      refine g_aload_n (q := 54) dX6_supportOf_53 rfl rfl ?_
      refine gm_get (k := 1) (q := 57) dX6_supportOf_54 q1395 (by decide) rfl rfl ?_
      refine g_iconst (q := 58) dX6_supportOf_57 rfl ?_
      refine g_iload (q := 60) dX6_supportOf_58 rfl rfl ?_
      refine g_iadd (q := 61) dX6_supportOf_60 rfl ?_
      refine g_iald (q := 62) dX6_supportOf_61 mA1 (by omega) (by omega) rfl ?_
      refine g_aload_n (q := 63) dX6_supportOf_62 rfl rfl ?_
      refine gm_get (k := 2) (q := 66) dX6_supportOf_63 q1396 (by decide) rfl rfl ?_
      refine g_iload (q := 68) dX6_supportOf_66 rfl rfl ?_
      refine g_iload (q := 70) dX6_supportOf_68 rfl rfl ?_
      refine g_iload_n (q := 71) dX6_supportOf_70 rfl rfl ?_
      refine g_cs (I' := iX6_linkAt) (mc := 0) (ms := 0) (rc := 0) (rs := 0) (q := 74) dX6_supportOf_71 q1672 q1673 gcX6_linkAt (c_linkAt (by unfold in32; omega)) rfl rfl ?_
      refine g_iald (q := 75) dX6_supportOf_74 mA2 (by first | exact k0.1 | exact k1.1 | exact k2.1) (by first | exact Int.lt_trans k0.2 (by decide) | exact Int.lt_trans k1.2 (by decide) | exact Int.lt_trans k2.2 (by decide)) rfl ?_
      refine g_imul (q := 76) dX6_supportOf_75 rfl ?_
      refine g_iadd (q := 77) dX6_supportOf_76 rfl ?_
      refine g_istore (q := 79) dX6_supportOf_77 gs4 rfl ?_
      refine g_iinc (q := 82) dX6_supportOf_79 rfl gs6 rfl ?_
      refine g_goto (t := 45) dX6_supportOf_82 (by decide) ?_
      refine g_iload (q := 47) dX6_supportOf_45 rfl rfl ?_
      refine g_iconst (q := 48) dX6_supportOf_47 rfl ?_
      refine g_icmp_ge (t := 85) (q := 51) dX6_supportOf_48 (by decide) rfl (by first | assumption | exact in32_gB | exact in32_gCmp | (unfold in32; omega)) (by first | assumption | exact in32_gB | exact in32_gCmp | (unfold in32; omega)) (fun c48 => ?_) (fun c48 => absurd c48 (by decide))
      refine g_iload (q := 87) dX6_supportOf_85 rfl rfl ?_
      refine g_bipush (q := 89) dX6_supportOf_87 rfl ?_
      refine g_idiv (q := 90) dX6_supportOf_89 (by unfold in32; omega) (by unfold in32; omega) (by omega) rfl ?_
      exact g_iret dX6_supportOf_90 rfl ⟨rfl, rfl⟩
  · unfold mSup
    unfold mSum thg at hS ⊢
    rw [if_neg h0] at hS ⊢
    refine g_aload_n (q := 1) dX6_supportOf_0 rfl rfl ?_
    refine g_iload_n (q := 2) dX6_supportOf_1 rfl rfl ?_
    refine g_iload_n (q := 3) dX6_supportOf_2 rfl rfl ?_
    refine g_cv (I' := iX6_thingOf) (mc := 0) (ms := 0) (rc := 0) (rs := 0) (ci := 7) (q := 6) dX6_supportOf_3 q1668 q1670 rfl qs64 gcX6_thingOf mO (c_thingOf hr (by omega) hi (by omega)) rfl rfl ?_
    refine g_istore_n (q := 7) dX6_supportOf_6 gs3 rfl ?_
    refine g_aload_n (q := 8) dX6_supportOf_7 rfl rfl ?_
    refine gm_get (k := 1) (q := 11) dX6_supportOf_8 q1395 (by decide) rfl rfl ?_
    refine g_bipush (q := 13) dX6_supportOf_11 rfl ?_
    refine g_iald (q := 14) dX6_supportOf_13 mA1 (by omega) (by omega) rfl ?_
    refine g_aload_n (q := 15) dX6_supportOf_14 rfl rfl ?_
    refine gm_get (k := 2) (q := 18) dX6_supportOf_15 q1396 (by decide) rfl rfl ?_
    refine g_iconst (q := 19) dX6_supportOf_18 rfl ?_
    refine g_iload_n (q := 20) dX6_supportOf_19 rfl rfl ?_
    refine g_iload_n (q := 21) dX6_supportOf_20 rfl rfl ?_
    refine g_cs (I' := iX6_linkAt) (mc := 0) (ms := 0) (rc := 0) (rs := 0) (q := 24) dX6_supportOf_21 q1672 q1673 gcX6_linkAt (c_linkAt (by unfold in32; omega)) rfl rfl ?_
    refine g_iald (q := 25) dX6_supportOf_24 mA2 k3.1 (by omega) rfl ?_
    refine g_imul (q := 26) dX6_supportOf_25 rfl ?_
    refine g_istore (q := 28) dX6_supportOf_26 gs4 rfl ?_
    refine g_iload_n (q := 29) dX6_supportOf_28 rfl rfl ?_
    refine g_if_le (t := 85) (q := 32) dX6_supportOf_29 (by decide) rfl (by first | assumption | exact in32_gB | exact in32_gCmp | (unfold in32; omega)) (fun c29 => ?_) (fun c29 => ?_)
    · refine g_iload (q := 87) dX6_supportOf_85 rfl rfl ?_
      refine g_bipush (q := 89) dX6_supportOf_87 rfl ?_
      refine g_idiv (q := 90) dX6_supportOf_89 (by unfold in32; omega) (by unfold in32; omega) (by omega) rfl ?_
      exact g_iret dX6_supportOf_90 rfl ⟨rfl, rfl⟩
    · exact absurd c29 (by omega)
theorem c_slipsOf (hw : WFw w) (hh : HSok B hs) (hr : 0 ≤ r) (hr1 : r < w 2) : CALL E iX6_slipsOf (d + 2) 0 0 [.ref am, vI r] (mH E G am th w hs si lo bk iW iH iB iL iS tp td fv sz pa fr tk vl fk fp fsh hdt lt kl kn cp cd bp bl md sw nd mn my wd nm mv) (qR (vI (mSlips w hs r)) (mH E G am th w hs si lo bk iW iH iB iL iS tp td fv sz pa fr tk vl fk fp fsh hdt lt kl kn cp cd bp bl md sw nd mn my wd nm mv)) := by
  have h1 := hw.1
  have h12 := hw.2.1
  have h4 := hw.2.2.2.1
  have h2 := hw.row hr hr1
  have loop : ∀ (n : Nat) (i : Int) (z : Int32), 0 ≤ i → i + n = w (34 + 14 * r) → GO E iX6_slipsOf (d + 2) 0 0 4 [some (.ref am), some (vI r), some (.int z), some (vI i)] [] (mH E G am th w hs si lo bk iW iH iB iL iS tp td fv sz pa fr tk vl fk fp fsh hdt lt kl kn cp cd bp bl md sw nd mn my wd nm mv) (qR (vI (slL w hs r n i z).toInt) (mH E G am th w hs si lo bk iW iH iB iL iS tp td fv sz pa fr tk vl fk fp fsh hdt lt kl kn cp cd bp bl md sw nd mn my wd nm mv)) := by
    intro n
    induction n with
    | zero =>
      intro i z h0 h9
      refine g_iload_n (q := 5) dX6_slipsOf_4 rfl rfl ?_
      refine g_aload_n (q := 6) dX6_slipsOf_5 rfl rfl ?_
      refine g_iload_n (q := 7) dX6_slipsOf_6 rfl rfl ?_
      refine g_cv (I' := iX6_manyOf) (mc := 0) (ms := 0) (rc := 0) (rs := 0) (ci := 7) (q := 10) dX6_slipsOf_7 q1660 q1662 rfl qs62 gcX6_manyOf mO (c_manyOf hr (by omega)) rfl rfl ?_
      refine g_icmp_ge (t := 44) (q := 13) dX6_slipsOf_10 (by decide) rfl (by first | assumption | exact in32_gB | exact in32_gCmp | (unfold in32; omega)) (by first | assumption | exact in32_gB | exact in32_gCmp | (unfold in32; omega)) (fun c10 => ?_) (fun c10 => ?_)
      · refine g_iload_n (q := 45) dX6_slipsOf_44 rfl rfl ?_
        exact g_iretR dX6_slipsOf_45 rfl ⟨by rw [← vI_of]; rfl, rfl⟩
      · exact absurd c10 (by omega)
    | succ n ih =>
      intro i z h0 h9
      have hsu := mSup_in hw hh hr hr1 h0 (show i < w (34 + 14 * r) by omega)
      have step : ∀ y : Int32, y = (if mSup w hs r i < w 4 then Int32.ofInt 1 <<< (Int32.ofInt i &&& 31) else Int32.ofInt 0) → GO E iX6_slipsOf (d + 2) 0 0 36 [some (.ref am), some (vI r), some (.int z), some (vI i)] [.int y, .int z] (mH E G am th w hs si lo bk iW iH iB iL iS tp td fv sz pa fr tk vl fk fp fsh hdt lt kl kn cp cd bp bl md sw nd mn my wd nm mv) (qR (vI (slL w hs r (n + 1) i z).toInt) (mH E G am th w hs si lo bk iW iH iB iL iS tp td fv sz pa fr tk vl fk fp fsh hdt lt kl kn cp cd bp bl md sw nd mn my wd nm mv)) := by
        intro y hy
        subst hy
        refine g_ior (q := 37) dX6_slipsOf_36 rfl ?_
        refine g_istore_n (q := 38) dX6_slipsOf_37 gs2 rfl ?_
        refine g_iinc (q := 41) dX6_slipsOf_38 rfl gs3 rfl ?_
        refine g_goto (t := 4) dX6_slipsOf_41 (by decide) ?_
        exact ih _ _ (by omega) (by omega)
      refine g_iload_n (q := 5) dX6_slipsOf_4 rfl rfl ?_
      refine g_aload_n (q := 6) dX6_slipsOf_5 rfl rfl ?_
      refine g_iload_n (q := 7) dX6_slipsOf_6 rfl rfl ?_
      refine g_cv (I' := iX6_manyOf) (mc := 0) (ms := 0) (rc := 0) (rs := 0) (ci := 7) (q := 10) dX6_slipsOf_7 q1660 q1662 rfl qs62 gcX6_manyOf mO (c_manyOf hr (by omega)) rfl rfl ?_
      refine g_icmp_ge (t := 44) (q := 13) dX6_slipsOf_10 (by decide) rfl (by first | assumption | exact in32_gB | exact in32_gCmp | (unfold in32; omega)) (by first | assumption | exact in32_gB | exact in32_gCmp | (unfold in32; omega)) (fun c10 => ?_) (fun c10 => ?_)
      · exact absurd c10 (by omega)
      · refine g_iload_n (q := 14) dX6_slipsOf_13 rfl rfl ?_
        refine g_aload_n (q := 15) dX6_slipsOf_14 rfl rfl ?_
        refine g_iload_n (q := 16) dX6_slipsOf_15 rfl rfl ?_
        refine g_iload_n (q := 17) dX6_slipsOf_16 rfl rfl ?_
        refine g_cv (I' := iX6_supportOf) (mc := 0) (ms := 0) (rc := 0) (rs := 0) (ci := 7) (q := 20) dX6_slipsOf_17 q1664 q1666 rfl qs63 gcX6_supportOf mO (c_supportOf (d := d) hw hh hr hr1 h0 (by omega)) rfl rfl ?_
        refine g_aload_n (q := 21) dX6_slipsOf_20 rfl rfl ?_
        refine gm_get (k := 1) (q := 24) dX6_slipsOf_21 q1395 (by decide) rfl rfl ?_
        refine g_iconst (q := 25) dX6_slipsOf_24 rfl ?_
        refine g_iald (q := 26) dX6_slipsOf_25 mA1 (by omega) (by omega) rfl ?_
        refine g_icmp_ge (t := 35) (q := 29) dX6_slipsOf_26 (by decide) rfl (by first | assumption | exact in32_gB | exact in32_gCmp | (unfold in32; omega)) (by first | assumption | exact in32_gB | exact in32_gCmp | (unfold in32; omega)) (fun c26 => ?_) (fun c26 => ?_)
        · refine g_iconst (q := 36) dX6_slipsOf_35 rfl ?_
          exact step _ (by first | exact (if_pos c26).symm | exact (if_neg (show ¬ mSup w hs r i < w 4 by omega)).symm)
        · refine g_iconst (q := 30) dX6_slipsOf_29 rfl ?_
          refine g_iload_n (q := 31) dX6_slipsOf_30 rfl rfl ?_
          refine g_ishl (q := 32) dX6_slipsOf_31 rfl ?_
          refine g_goto (t := 36) dX6_slipsOf_32 (by decide) ?_
          exact step _ (by first | exact (if_pos c26).symm | exact (if_neg (show ¬ mSup w hs r i < w 4 by omega)).symm)
  show GO E iX6_slipsOf _ _ _ 0 [some (.ref am), some (vI r), none, none] [] _ _
  refine g_iconst (q := 1) dX6_slipsOf_0 rfl ?_
  refine g_istore_n (q := 2) dX6_slipsOf_1 gs2 rfl ?_
  refine g_iconst (q := 3) dX6_slipsOf_2 rfl ?_
  refine g_istore_n (q := 4) dX6_slipsOf_3 gs3 rfl ?_
  exact loop _ _ _ (by omega) (by omega)
theorem mSlips_32 {w hs : Int → Int} {r : Int} : in32 (mSlips w hs r) := in32_of _
theorem c_learns (hw : WFw w) (hh : HSok B hs) (hB : B ≤ 900000000) (hkl : in32 kl) (hkn : in32 kn) (hr : 0 ≤ r) (hr1 : r < w 2) : CALL E iX6_learns (d + 4) 0 0 [.ref am, vI r] (mH E G am th w hs si lo bk iW iH iB iL iS tp td fv sz pa fr tk vl fk fp fsh hdt lt kl kn cp cd bp bl md sw nd mn my wd nm mv) (qR (vI (mLearns w hs kl kn r).1) (mH E G am th w ((mLearns w hs kl kn r).2) si lo bk iW iH iB iL iS tp td fv sz pa fr tk vl fk fp fsh hdt lt kl kn cp cd bp bl md sw nd mn my wd nm mv)) := by
  have loop : ∀ (f : Nat) (n g B : Int) (hs : Int → Int), HSok B hs → B + f ≤ 1000000000 → 1 ≤ n → n + f = 41 → (g = 0 ∨ g = 1) → GO E iX6_learns (d + 4) 0 0 4 [some (.ref am), some (vI r), some (vI g), some (vI n)] [] (mH E G am th w hs si lo bk iW iH iB iL iS tp td fv sz pa fr tk vl fk fp fsh hdt lt kl kn cp cd bp bl md sw nd mn my wd nm mv) (qR (vI (mLrnL w kl kn r f n g hs).1) (mH E G am th w ((mLrnL w kl kn r f n g hs).2) si lo bk iW iH iB iL iS tp td fv sz pa fr tk vl fk fp fsh hdt lt kl kn cp cd bp bl md sw nd mn my wd nm mv)) := by
    intro f
    induction f with
    | zero =>
      intro n g B hs h h0 h1 h2 h3
      refine g_iload_n (q := 5) dX6_learns_4 rfl rfl ?_
      refine g_bipush (q := 7) dX6_learns_5 rfl ?_
      refine g_icmp_gt (t := 44) (q := 10) dX6_learns_7 (by decide) rfl (by first | assumption | exact in32_gB | exact in32_gCmp | (unfold in32; omega)) (by first | assumption | exact in32_gB | exact in32_gCmp | (unfold in32; omega)) (fun c7 => ?_) (fun c7 => ?_)
      · refine g_iconst (q := 45) dX6_learns_44 rfl ?_
        exact g_iret dX6_learns_45 rfl ⟨rfl, rfl⟩
      · exact absurd c7 (by omega)
    | succ f ih =>
      intro n g B hs h h0 h1 h2 h3
      have g1 := h.reads (kl := kl) (kn := kn) hw hr hr1
      have step : ∀ u : Int, u = (if mSlips w (mReads w hs kl kn r) r = 0 then g + 1 else 0) → GO E iX6_learns (d + 4) 0 0 30 [some (.ref am), some (vI r), some (vI g), some (vI n)] [vI u] (mH E G am th w (mReads w hs kl kn r) si lo bk iW iH iB iL iS tp td fv sz pa fr tk vl fk fp fsh hdt lt kl kn cp cd bp bl md sw nd mn my wd nm mv) (qR (vI (mLrnL w kl kn r (f + 1) n g hs).1) (mH E G am th w ((mLrnL w kl kn r (f + 1) n g hs).2) si lo bk iW iH iB iL iS tp td fv sz pa fr tk vl fk fp fsh hdt lt kl kn cp cd bp bl md sw nd mn my wd nm mv)) := by
        intro u hu
        have hu2 : u = 0 ∨ u = 1 ∨ u = 2 := by split at hu <;> omega
        have eq1 : mLrnL w kl kn r (f + 1) n g hs = if u = 2 then (n, mReads w hs kl kn r) else mLrnL w kl kn r f (n + 1) u (mReads w hs kl kn r) := by rw [hu]; rfl
        rw [eq1]
        by_cases z : u = 2
        · rw [if_pos z]
          refine g_istore_n (q := 31) dX6_learns_30 gs2 rfl ?_
          refine g_iload_n (q := 32) dX6_learns_31 rfl rfl ?_
          refine g_iconst (q := 33) dX6_learns_32 rfl ?_
          refine g_icmp_ne (t := 38) (q := 36) dX6_learns_33 (by decide) rfl (by first | assumption | exact in32_gB | exact in32_gCmp | (unfold in32; omega)) (by first | assumption | exact in32_gB | exact in32_gCmp | (unfold in32; omega)) (fun c33 => ?_) (fun c33 => ?_)
          · exact absurd z c33
          · refine g_iload_n (q := 37) dX6_learns_36 rfl rfl ?_
            exact g_iret dX6_learns_37 rfl ⟨rfl, rfl⟩
        · rw [if_neg z]
          refine g_istore_n (q := 31) dX6_learns_30 gs2 rfl ?_
          refine g_iload_n (q := 32) dX6_learns_31 rfl rfl ?_
          refine g_iconst (q := 33) dX6_learns_32 rfl ?_
          refine g_icmp_ne (t := 38) (q := 36) dX6_learns_33 (by decide) rfl (by first | assumption | exact in32_gB | exact in32_gCmp | (unfold in32; omega)) (by first | assumption | exact in32_gB | exact in32_gCmp | (unfold in32; omega)) (fun c33 => ?_) (fun c33 => ?_)
          · refine g_iinc (q := 41) dX6_learns_38 rfl gs3 rfl ?_
            refine g_goto (t := 4) dX6_learns_41 (by decide) ?_
            exact ih _ _ (B + 1) _ g1 (by omega) (by omega) (by omega) (by omega)
          · exact absurd c33 z
      refine g_iload_n (q := 5) dX6_learns_4 rfl rfl ?_
      refine g_bipush (q := 7) dX6_learns_5 rfl ?_
      refine g_icmp_gt (t := 44) (q := 10) dX6_learns_7 (by decide) rfl (by first | assumption | exact in32_gB | exact in32_gCmp | (unfold in32; omega)) (by first | assumption | exact in32_gB | exact in32_gCmp | (unfold in32; omega)) (fun c7 => ?_) (fun c7 => ?_)
      · exact absurd c7 (by omega)
      · refine g_aload_n (q := 11) dX6_learns_10 rfl rfl ?_
        refine g_iload_n (q := 12) dX6_learns_11 rfl rfl ?_
        refine g_cvV (I' := iX6_reads) (mc := 0) (ms := 0) (rc := 0) (rs := 0) (ci := 7) (q := 15) dX6_learns_12 q1678 q1680 rfl qs65 gcX6_reads mO (c_reads (d := d) hw h (by omega) hkl hkn hr hr1) rfl rfl ?_
        refine g_aload_n (q := 16) dX6_learns_15 rfl rfl ?_
        refine g_iload_n (q := 17) dX6_learns_16 rfl rfl ?_
        refine g_cv (I' := iX6_slipsOf) (mc := 0) (ms := 0) (rc := 0) (rs := 0) (ci := 7) (q := 20) dX6_learns_17 q1656 q1658 rfl qs61 gcX6_slipsOf mO (c_slipsOf (d := d + 1) hw g1 hr hr1) rfl rfl ?_
        refine g_if_ne (t := 29) (q := 23) dX6_learns_20 (by decide) rfl mSlips_32 (fun c20 => ?_) (fun c20 => ?_)
        · refine g_iconst (q := 30) dX6_learns_29 rfl ?_
          exact step _ (by first | rw [if_pos c20] | rw [if_neg c20])
        · refine g_iload_n (q := 24) dX6_learns_23 rfl rfl ?_
          refine g_iconst (q := 25) dX6_learns_24 rfl ?_
          refine g_iadd (q := 26) dX6_learns_25 rfl ?_
          refine g_goto (t := 30) dX6_learns_26 (by decide) ?_
          exact step _ (by first | rw [if_pos c20] | rw [if_neg c20])
  show GO E iX6_learns _ _ _ 0 [some (.ref am), some (vI r), none, none] [] _ _
  refine g_iconst (q := 1) dX6_learns_0 rfl ?_
  refine g_istore_n (q := 2) dX6_learns_1 gs2 rfl ?_
  refine g_iconst (q := 3) dX6_learns_2 rfl ?_
  refine g_istore_n (q := 4) dX6_learns_3 gs3 rfl ?_
  exact loop 40 1 0 B hs hh (by omega) (by omega) (by omega) (by omega)
theorem c_copy (h0 : 0 ≤ cd) (h1 : cd < 8) : CALL E iX6_copy d 0 0 [.ref am] (mH E G am th w hs si lo bk iW iH iB iL iS tp td fv sz pa fr tk vl fk fp fsh hdt lt kl kn cp cd bp bl md sw nd mn my wd nm mv) (qV (mH E G am th w hs si lo bk iW iH iB iL iS tp td fv sz pa fr tk vl fk fp fsh hdt lt kl kn (cpyI cp hs (2018 * cd) 0 2018) (cd + 1) bp bl md sw nd mn my wd nm mv)) := by
  have loop : ∀ (n : Nat) (i : Int), 0 ≤ i → i + n = 2018 → GO E iX6_copy d 0 0 2 [some (.ref am), some (vI i)] [] (mH E G am th w hs si lo bk iW iH iB iL iS tp td fv sz pa fr tk vl fk fp fsh hdt lt kl kn (cpyI cp hs (2018 * cd) 0 i) cd bp bl md sw nd mn my wd nm mv) (qV (mH E G am th w hs si lo bk iW iH iB iL iS tp td fv sz pa fr tk vl fk fp fsh hdt lt kl kn (cpyI cp hs (2018 * cd) 0 2018) (cd + 1) bp bl md sw nd mn my wd nm mv)) := by
    intro n
    induction n with
    | zero =>
      intro i h2 h3
      obtain rfl : i = 2018 := by omega
      refine g_iload_n (q := 3) dX6_copy_2 rfl rfl ?_
      refine g_sipush (q := 6) dX6_copy_3 rfl ?_
      refine g_icmp_ge (t := 36) (q := 9) dX6_copy_6 (by decide) rfl (by first | assumption | exact in32_gB | exact in32_gCmp | (unfold in32; omega)) (by first | assumption | exact in32_gB | exact in32_gCmp | (unfold in32; omega)) (fun c6 => ?_) (fun c6 => ?_)
      · refine g_aload_n (q := 37) dX6_copy_36 rfl rfl ?_
        refine g_dup (q := 38) dX6_copy_37 rfl ?_
        refine gm_get (k := 27) (q := 41) dX6_copy_38 q1421 (by decide) rfl rfl ?_
        refine g_iconst (q := 42) dX6_copy_41 rfl ?_
        refine g_iadd (q := 43) dX6_copy_42 rfl ?_
        refine gm_put27 (q := 46) dX6_copy_43 q1421 rfl ?_
        exact g_vret dX6_copy_46 rfl ⟨rfl, rfl⟩
      · exact absurd c6 (by decide)
    | succ n ih =>
      intro i h2 h3
      refine g_iload_n (q := 3) dX6_copy_2 rfl rfl ?_
      refine g_sipush (q := 6) dX6_copy_3 rfl ?_
      refine g_icmp_ge (t := 36) (q := 9) dX6_copy_6 (by decide) rfl (by first | assumption | exact in32_gB | exact in32_gCmp | (unfold in32; omega)) (by first | assumption | exact in32_gB | exact in32_gCmp | (unfold in32; omega)) (fun c6 => ?_) (fun c6 => ?_)
      · exact absurd c6 (by omega)
      · refine g_aload_n (q := 10) dX6_copy_9 rfl rfl ?_
        refine gm_get (k := 26) (q := 13) dX6_copy_10 q1420 (by decide) rfl rfl ?_
        refine g_sipush (q := 16) dX6_copy_13 rfl ?_
        refine g_aload_n (q := 17) dX6_copy_16 rfl rfl ?_
        refine gm_get (k := 27) (q := 20) dX6_copy_17 q1421 (by decide) rfl rfl ?_
        refine g_imul (q := 21) dX6_copy_20 rfl ?_
        refine g_iload_n (q := 22) dX6_copy_21 rfl rfl ?_
        refine g_iadd (q := 23) dX6_copy_22 rfl ?_
        refine g_aload_n (q := 24) dX6_copy_23 rfl rfl ?_
        refine gm_get (k := 2) (q := 27) dX6_copy_24 q1396 (by decide) rfl rfl ?_
        refine g_iload_n (q := 28) dX6_copy_27 rfl rfl ?_
        refine g_iald (q := 29) dX6_copy_28 mA2 (by omega) (by omega) rfl ?_
        refine gm_st26 (q := 30) dX6_copy_29 (by omega) (by omega)  rfl ?_
        rw [show hs i = hs (0 + i) by rw [Int.zero_add], cpyI_s h2]
        refine g_iinc (q := 33) dX6_copy_30 rfl gs1 rfl ?_
        refine g_goto (t := 2) dX6_copy_33 (by decide) ?_
        exact ih _ (by omega) (by omega)
  show GO E iX6_copy _ _ _ 0 [some (.ref am), none] [] _ _
  refine g_iconst (q := 1) dX6_copy_0 rfl ?_
  refine g_istore_n (q := 2) dX6_copy_1 gs1 rfl ?_
  have := loop 2018 0 (by omega) (by omega)
  rw [cpyI_0] at this
  exact this
theorem c_takeBack (h0 : 1 ≤ cd) (h1 : cd ≤ 8) : CALL E iX6_takeBack d 0 0 [.ref am] (mH E G am th w hs si lo bk iW iH iB iL iS tp td fv sz pa fr tk vl fk fp fsh hdt lt kl kn cp cd bp bl md sw nd mn my wd nm mv) (qV (mH E G am th w (cpyI hs cp 0 (2018 * (cd - 1)) 2018) si lo bk iW iH iB iL iS tp td fv sz pa fr tk vl fk fp fsh hdt lt kl kn cp (cd - 1) bp bl md sw nd mn my wd nm mv)) := by
  have loop : ∀ (n : Nat) (i : Int), 0 ≤ i → i + n = 2018 → GO E iX6_takeBack d 0 0 12 [some (.ref am), some (vI i)] [] (mH E G am th w (cpyI hs cp 0 (2018 * (cd - 1)) i) si lo bk iW iH iB iL iS tp td fv sz pa fr tk vl fk fp fsh hdt lt kl kn cp (cd - 1) bp bl md sw nd mn my wd nm mv) (qV (mH E G am th w (cpyI hs cp 0 (2018 * (cd - 1)) 2018) si lo bk iW iH iB iL iS tp td fv sz pa fr tk vl fk fp fsh hdt lt kl kn cp (cd - 1) bp bl md sw nd mn my wd nm mv)) := by
    intro n
    induction n with
    | zero =>
      intro i h2 h3
      obtain rfl : i = 2018 := by omega
      refine g_iload_n (q := 13) dX6_takeBack_12 rfl rfl ?_
      refine g_sipush (q := 16) dX6_takeBack_13 rfl ?_
      refine g_icmp_ge (t := 46) (q := 19) dX6_takeBack_16 (by decide) rfl (by first | assumption | exact in32_gB | exact in32_gCmp | (unfold in32; omega)) (by first | assumption | exact in32_gB | exact in32_gCmp | (unfold in32; omega)) (fun c16 => ?_) (fun c16 => ?_)
      · exact g_vret dX6_takeBack_46 rfl ⟨rfl, rfl⟩
      · exact absurd c16 (by decide)
    | succ n ih =>
      intro i h2 h3
      refine g_iload_n (q := 13) dX6_takeBack_12 rfl rfl ?_
      refine g_sipush (q := 16) dX6_takeBack_13 rfl ?_
      refine g_icmp_ge (t := 46) (q := 19) dX6_takeBack_16 (by decide) rfl (by first | assumption | exact in32_gB | exact in32_gCmp | (unfold in32; omega)) (by first | assumption | exact in32_gB | exact in32_gCmp | (unfold in32; omega)) (fun c16 => ?_) (fun c16 => ?_)
      · exact absurd c16 (by omega)
      · refine g_aload_n (q := 20) dX6_takeBack_19 rfl rfl ?_
        refine gm_get (k := 2) (q := 23) dX6_takeBack_20 q1396 (by decide) rfl rfl ?_
        refine g_iload_n (q := 24) dX6_takeBack_23 rfl rfl ?_
        refine g_aload_n (q := 25) dX6_takeBack_24 rfl rfl ?_
        refine gm_get (k := 26) (q := 28) dX6_takeBack_25 q1420 (by decide) rfl rfl ?_
        refine g_sipush (q := 31) dX6_takeBack_28 rfl ?_
        refine g_aload_n (q := 32) dX6_takeBack_31 rfl rfl ?_
        refine gm_get (k := 27) (q := 35) dX6_takeBack_32 q1421 (by decide) rfl rfl ?_
        refine g_imul (q := 36) dX6_takeBack_35 rfl ?_
        refine g_iload_n (q := 37) dX6_takeBack_36 rfl rfl ?_
        refine g_iadd (q := 38) dX6_takeBack_37 rfl ?_
        refine g_iald (q := 39) dX6_takeBack_38 mA26 (by omega) (by omega) rfl ?_
        refine gm_st2 (q := 40) dX6_takeBack_39 (by omega) (by omega)  rfl ?_
        have e9 : upI (cpyI hs cp 0 (2018 * (cd - 1)) i) i (cp (2018 * (cd - 1) + i)) = cpyI hs cp 0 (2018 * (cd - 1)) (i + 1) := by
          have := cpyI_s (dst := hs) (src := cp) (dO := 0) (sO := 2018 * (cd - 1)) h2
          rw [Int.zero_add] at this
          exact this
        rw [e9]
        refine g_iinc (q := 43) dX6_takeBack_40 rfl gs1 rfl ?_
        refine g_goto (t := 12) dX6_takeBack_43 (by decide) ?_
        exact ih _ (by omega) (by omega)
  show GO E iX6_takeBack _ _ _ 0 [some (.ref am), none] [] _ _
  refine g_aload_n (q := 1) dX6_takeBack_0 rfl rfl ?_
  refine g_dup (q := 2) dX6_takeBack_1 rfl ?_
  refine gm_get (k := 27) (q := 5) dX6_takeBack_2 q1421 (by decide) rfl rfl ?_
  refine g_iconst (q := 6) dX6_takeBack_5 rfl ?_
  refine g_isub (q := 7) dX6_takeBack_6 rfl ?_
  refine gm_put27 (q := 10) dX6_takeBack_7 q1421 rfl ?_
  refine g_iconst (q := 11) dX6_takeBack_10 rfl ?_
  refine g_istore_n (q := 12) dX6_takeBack_11 gs1 rfl ?_
  have := loop 2018 0 (by omega) (by omega)
  rw [cpyI_0] at this
  exact this
end
