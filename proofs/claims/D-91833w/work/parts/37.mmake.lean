/-! THE REFERENCE: rows made anew -/
set_option maxRecDepth 100000
/-- the world with one more row, of the n first of g -/
def mkW (w : Int → Int) (n : Int) (g : Int → Int) : Int → Int := upI (cpyI (upI (cpyI w (fun _ => 0) (34 + 14 * w 2) 0 14) (34 + 14 * w 2) n) g (34 + 14 * w 2 + 1) 0 n) 2 (w 2 + 1)
section
variable {E : gE} {d rc rs am : Nat} {G : gH}
variable {th si lo td sz pa fr tk vl fk fp hdt kl kn cd bp bl : Int} {w hs bk iW iH iB iL iS tp fv fsh lt cp md sw nd mn my wd nm mv : Int → Int}
variable {s a b r r2 i k v e B c n l left days dg : Int} {Q : Outcome → gH → Prop}
theorem c_makes (h0 : 0 ≤ w 2) (h1 : w 2 < 12) (hn0 : 0 ≤ n) (hn : n ≤ 12) : CALL E iX6_makes d 0 0 [.ref am, vI n] (mH E G am th w hs si lo bk iW iH iB iL iS tp td fv sz pa fr tk vl fk fp fsh hdt lt kl kn cp cd bp bl md sw nd mn my wd nm mv) (qR (vI (w 2)) (mH E G am th (mkW w n md) hs si lo bk iW iH iB iL iS tp td fv sz pa fr tk vl fk fp fsh hdt lt kl kn cp cd bp bl md sw nd mn my wd nm mv)) := by
  generalize er : w 2 = r at h0 h1
  have eM : mkW w n md = upI (cpyI (upI (cpyI w (fun _ => 0) (34 + 14 * r) 0 14) (34 + 14 * r) n) md (34 + 14 * r + 1) 0 n) 2 (r + 1) := by unfold mkW; rw [er]
  rw [eM]
  generalize ew : upI (cpyI w (fun _ => 0) (34 + 14 * r) 0 14) (34 + 14 * r) n = w1
  have e2 : w1 2 = r := by rw [← ew, upI_ne (by omega), cpyI_out (by omega)]; exact er
  have loop2 : ∀ (f : Nat) (i : Int), 0 ≤ i → i + f = n → GO E iX6_makes d 0 0 51 [some (.ref am), some (vI n), some (vI r), some (vI (34 + 14 * r)), some (vI i)] [] (mH E G am th (cpyI w1 md (34 + 14 * r + 1) 0 i) hs si lo bk iW iH iB iL iS tp td fv sz pa fr tk vl fk fp fsh hdt lt kl kn cp cd bp bl md sw nd mn my wd nm mv) (qR (vI r) (mH E G am th (upI (cpyI w1 md (34 + 14 * r + 1) 0 n) 2 (r + 1)) hs si lo bk iW iH iB iL iS tp td fv sz pa fr tk vl fk fp fsh hdt lt kl kn cp cd bp bl md sw nd mn my wd nm mv)) := by
    intro f
    induction f with
    | zero =>
      intro i q0 q1
      obtain rfl : i = n := by omega
      have e3 : cpyI w1 md (34 + 14 * r + 1) 0 i 2 = r := by rw [cpyI_out (by omega), e2]
      refine g_iload (q := 53) dX6_makes_51 rfl rfl ?_
      refine g_iload_n (q := 54) dX6_makes_53 rfl rfl ?_
      refine g_icmp_ge (t := 81) (q := 57) dX6_makes_54 (by decide) rfl (by first | assumption | exact in32_gB | exact in32_gCmp | (unfold in32; omega)) (by first | assumption | exact in32_gB | exact in32_gCmp | (unfold in32; omega)) (fun c54 => ?_) (fun c54 => ?_)
      · refine g_aload_n (q := 82) dX6_makes_81 rfl rfl ?_
        refine gm_get (k := 1) (q := 85) dX6_makes_82 q1395 (by decide) rfl rfl ?_
        refine g_iconst (q := 86) dX6_makes_85 rfl ?_
        refine g_dup2 (q := 87) dX6_makes_86 rfl ?_
        refine g_iald (q := 88) dX6_makes_87 mA1 (by omega) (by omega) rfl ?_
        rw [e3]
        refine g_iconst (q := 89) dX6_makes_88 rfl ?_
        refine g_iadd (q := 90) dX6_makes_89 rfl ?_
        refine gm_st1 (q := 91) dX6_makes_90 (by omega) (by omega)  rfl ?_
        refine g_iload_n (q := 92) dX6_makes_91 rfl rfl ?_
        exact g_iret dX6_makes_92 rfl ⟨rfl, rfl⟩
      · exact absurd c54 (by omega)
    | succ f ih =>
      intro i q0 q1
      refine g_iload (q := 53) dX6_makes_51 rfl rfl ?_
      refine g_iload_n (q := 54) dX6_makes_53 rfl rfl ?_
      refine g_icmp_ge (t := 81) (q := 57) dX6_makes_54 (by decide) rfl (by first | assumption | exact in32_gB | exact in32_gCmp | (unfold in32; omega)) (by first | assumption | exact in32_gB | exact in32_gCmp | (unfold in32; omega)) (fun c54 => ?_) (fun c54 => ?_)
      · exact absurd c54 (by omega)
      · refine g_aload_n (q := 58) dX6_makes_57 rfl rfl ?_
        refine gm_get (k := 1) (q := 61) dX6_makes_58 q1395 (by decide) rfl rfl ?_
        refine g_iload_n (q := 62) dX6_makes_61 rfl rfl ?_
        refine g_iconst (q := 63) dX6_makes_62 rfl ?_
        refine g_iadd (q := 64) dX6_makes_63 rfl ?_
        refine g_iload (q := 66) dX6_makes_64 rfl rfl ?_
        refine g_iadd (q := 67) dX6_makes_66 rfl ?_
        refine g_aload_n (q := 68) dX6_makes_67 rfl rfl ?_
        refine gm_get (k := 30) (q := 71) dX6_makes_68 q1424 (by decide) rfl rfl ?_
        refine g_iload (q := 73) dX6_makes_71 rfl rfl ?_
        refine g_iald (q := 74) dX6_makes_73 mA30 (by omega) (by omega) rfl ?_
        refine gm_st1 (q := 75) dX6_makes_74 (by omega) (by omega)  rfl ?_
        rw [show md i = md (0 + i) by rw [Int.zero_add], cpyI_s q0]
        refine g_iinc (q := 78) dX6_makes_75 rfl gs4 rfl ?_
        refine g_goto (t := 51) dX6_makes_78 (by decide) ?_
        exact ih _ (by omega) (by omega)
  have loop1 : ∀ (f : Nat) (i : Int), 0 ≤ i → i + f = 14 → GO E iX6_makes d 0 0 18 [some (.ref am), some (vI n), some (vI r), some (vI (34 + 14 * r)), some (vI i)] [] (mH E G am th (cpyI w (fun _ => 0) (34 + 14 * r) 0 i) hs si lo bk iW iH iB iL iS tp td fv sz pa fr tk vl fk fp fsh hdt lt kl kn cp cd bp bl md sw nd mn my wd nm mv) (qR (vI r) (mH E G am th (upI (cpyI w1 md (34 + 14 * r + 1) 0 n) 2 (r + 1)) hs si lo bk iW iH iB iL iS tp td fv sz pa fr tk vl fk fp fsh hdt lt kl kn cp cd bp bl md sw nd mn my wd nm mv)) := by
    intro f
    induction f with
    | zero =>
      intro i q0 q1
      obtain rfl : i = 14 := by omega
      refine g_iload (q := 20) dX6_makes_18 rfl rfl ?_
      refine g_bipush (q := 22) dX6_makes_20 rfl ?_
      refine g_icmp_ge (t := 41) (q := 25) dX6_makes_22 (by decide) rfl (by first | assumption | exact in32_gB | exact in32_gCmp | (unfold in32; omega)) (by first | assumption | exact in32_gB | exact in32_gCmp | (unfold in32; omega)) (fun c22 => ?_) (fun c22 => ?_)
      · refine g_aload_n (q := 42) dX6_makes_41 rfl rfl ?_
        refine gm_get (k := 1) (q := 45) dX6_makes_42 q1395 (by decide) rfl rfl ?_
        refine g_iload_n (q := 46) dX6_makes_45 rfl rfl ?_
        refine g_iload_n (q := 47) dX6_makes_46 rfl rfl ?_
        refine gm_st1 (q := 48) dX6_makes_47 (by omega) (by omega)  rfl ?_
        rw [ew]
        refine g_iconst (q := 49) dX6_makes_48 rfl ?_
        refine g_istore (q := 51) dX6_makes_49 gs4 rfl ?_
        have := loop2 n.toNat 0 (by omega) (by omega)
        rw [cpyI_0] at this
        exact this
      · exact absurd c22 (by omega)
    | succ f ih =>
      intro i q0 q1
      have e3 := cpyI_s (dst := w) (src := fun _ => 0) (dO := 34 + 14 * r) (sO := 0) q0
      refine g_iload (q := 20) dX6_makes_18 rfl rfl ?_
      refine g_bipush (q := 22) dX6_makes_20 rfl ?_
      refine g_icmp_ge (t := 41) (q := 25) dX6_makes_22 (by decide) rfl (by first | assumption | exact in32_gB | exact in32_gCmp | (unfold in32; omega)) (by first | assumption | exact in32_gB | exact in32_gCmp | (unfold in32; omega)) (fun c22 => ?_) (fun c22 => ?_)
      · exact absurd c22 (by omega)
      · refine g_aload_n (q := 26) dX6_makes_25 rfl rfl ?_
        refine gm_get (k := 1) (q := 29) dX6_makes_26 q1395 (by decide) rfl rfl ?_
        refine g_iload_n (q := 30) dX6_makes_29 rfl rfl ?_
        refine g_iload (q := 32) dX6_makes_30 rfl rfl ?_
        refine g_iadd (q := 33) dX6_makes_32 rfl ?_
        refine g_iconst (q := 34) dX6_makes_33 rfl ?_
        refine gm_st1 (q := 35) dX6_makes_34 (by omega) (by omega)  rfl ?_
        rw [e3]
        refine g_iinc (q := 38) dX6_makes_35 rfl gs4 rfl ?_
        refine g_goto (t := 18) dX6_makes_38 (by decide) ?_
        exact ih _ (by omega) (by omega)
  show GO E iX6_makes _ _ _ 0 [some (.ref am), some (vI n), none, none, none] [] _ _
  refine g_aload_n (q := 1) dX6_makes_0 rfl rfl ?_
  refine gm_get (k := 1) (q := 4) dX6_makes_1 q1395 (by decide) rfl rfl ?_
  refine g_iconst (q := 5) dX6_makes_4 rfl ?_
  refine g_iald (q := 6) dX6_makes_5 mA1 (by omega) (by omega) rfl ?_
  rw [er]
  refine g_istore_n (q := 7) dX6_makes_6 gs2 rfl ?_
  refine g_bipush (q := 9) dX6_makes_7 rfl ?_
  refine g_bipush (q := 11) dX6_makes_9 rfl ?_
  refine g_iload_n (q := 12) dX6_makes_11 rfl rfl ?_
  refine g_imul (q := 13) dX6_makes_12 rfl ?_
  refine g_iadd (q := 14) dX6_makes_13 rfl ?_
  refine g_istore_n (q := 15) dX6_makes_14 gs3 rfl ?_
  refine g_iconst (q := 16) dX6_makes_15 rfl ?_
  refine g_istore (q := 18) dX6_makes_16 gs4 rfl ?_
  have := loop1 14 0 (by omega) (by omega)
  rw [cpyI_0] at this
  exact this
/-- a row's things, from its last on -/
def bwI (w : Int → Int) (r n : Int) : Int → Int := fun i => w (34 + 14 * r + 1 + (n - 1 - i))
theorem c_backward (hw : WFw w) (h1 : in32 r) : CALL E iX6_backward (d + 2) 0 0 [.ref am, vI r] (mH E G am th w hs si lo bk iW iH iB iL iS tp td fv sz pa fr tk vl fk fp fsh hdt lt kl kn cp cd bp bl md sw nd mn my wd nm mv) (qR (vI (if ¬ (0 ≤ r ∧ r ≤ w 2 - 1) then -2 else if w 2 = 12 then -3 else w 2)) (if (0 ≤ r ∧ r ≤ w 2 - 1) ∧ ¬ w 2 = 12 then (mH E G am th (mkW w (w (34 + 14 * r)) (cpyI md (bwI w r (w (34 + 14 * r))) 0 0 (w (34 + 14 * r)))) hs si lo bk iW iH iB iL iS tp td fv sz pa fr tk vl fk fp fsh hdt lt kl kn cp cd bp bl (cpyI md (bwI w r (w (34 + 14 * r))) 0 0 (w (34 + 14 * r))) sw nd mn my wd nm mv) else (mH E G am th w hs si lo bk iW iH iB iL iS tp td fv sz pa fr tk vl fk fp fsh hdt lt kl kn cp cd bp bl md sw nd mn my wd nm mv))) := by
  by_cases z : 0 ≤ r ∧ r ≤ w 2 - 1
  · rw [if_neg (fun c => c z)]
    by_cases z2 : w 2 = 12
    · rw [if_pos z2, if_neg (fun c => c.2 z2)]
      show GO E iX6_backward _ _ _ 0 [some (.ref am), some (vI r), none, none] [] _ _
      refine g_aload_n (q := 1) dX6_backward_0 rfl rfl ?_
      refine g_iload_n (q := 2) dX6_backward_1 rfl rfl ?_
      refine g_cv (I' := iX6_isRow) (mc := 0) (ms := 0) (rc := 0) (rs := 0) (ci := 7) (q := 5) dX6_backward_2 q1651 q1653 rfl qs60 gcX6_isRow mO (c_isRowM h1 hw.2.1) rfl rfl ?_
      refine g_ifneB (t := 11) (q := 8) dX6_backward_5 (by decide) rfl (fun c5 => ?_) (fun c5 => ?_)
      · refine g_aload_n (q := 12) dX6_backward_11 rfl rfl ?_
        refine gm_get (k := 1) (q := 15) dX6_backward_12 q1395 (by decide) rfl rfl ?_
        refine g_iconst (q := 16) dX6_backward_15 rfl ?_
        refine g_iald (q := 17) dX6_backward_16 mA1 (by omega) (by omega) rfl ?_
        refine g_bipush (q := 19) dX6_backward_17 rfl ?_
        refine g_icmp_ne (t := 25) (q := 22) dX6_backward_19 (by decide) rfl (by first | assumption | exact in32_gB | exact in32_gCmp | (unfold in32; omega)) (by first | assumption | exact in32_gB | exact in32_gCmp | (unfold in32; omega)) (fun c19 => ?_) (fun c19 => ?_)
        · exact absurd z2 c19
        · refine g_bipush (q := 24) dX6_backward_22 rfl ?_
          exact g_iret dX6_backward_24 rfl ⟨rfl, rfl⟩
      · exact absurd z c5
    · rw [if_neg z2, if_pos ⟨z, z2⟩]
      have hrow := hw.row z.1 (show r < w 2 by omega)
      have h12 := hw.2.1
      generalize en : w (34 + 14 * r) = n at *
      have loop : ∀ (f : Nat) (i : Int), 0 ≤ i → i + f = n → GO E iX6_backward (d + 2) 0 0 33 [some (.ref am), some (vI r), some (vI n), some (vI i)] [] (mH E G am th w hs si lo bk iW iH iB iL iS tp td fv sz pa fr tk vl fk fp fsh hdt lt kl kn cp cd bp bl (cpyI md (bwI w r n) 0 0 i) sw nd mn my wd nm mv) (qR (vI (w 2)) (mH E G am th (mkW w n (cpyI md (bwI w r n) 0 0 n)) hs si lo bk iW iH iB iL iS tp td fv sz pa fr tk vl fk fp fsh hdt lt kl kn cp cd bp bl (cpyI md (bwI w r n) 0 0 n) sw nd mn my wd nm mv)) := by
        intro f
        induction f with
        | zero =>
          intro i q0 q1
          obtain rfl : i = n := by omega
          refine g_iload_n (q := 34) dX6_backward_33 rfl rfl ?_
          refine g_iload_n (q := 35) dX6_backward_34 rfl rfl ?_
          refine g_icmp_ge (t := 60) (q := 38) dX6_backward_35 (by decide) rfl (by first | assumption | exact in32_gB | exact in32_gCmp | (unfold in32; omega)) (by first | assumption | exact in32_gB | exact in32_gCmp | (unfold in32; omega)) (fun c35 => ?_) (fun c35 => ?_)
          · refine g_aload_n (q := 61) dX6_backward_60 rfl rfl ?_
            refine g_iload_n (q := 62) dX6_backward_61 rfl rfl ?_
            refine g_cv (I' := iX6_makes) (mc := 0) (ms := 0) (rc := 0) (rs := 0) (ci := 7) (q := 65) dX6_backward_62 q1821 q1823 rfl qs80 gcX6_makes mO (c_makes (by omega) (by omega) (by omega) (by omega)) rfl rfl ?_
            exact g_iret dX6_backward_65 rfl ⟨rfl, rfl⟩
          · exact absurd c35 (by omega)
        | succ f ih =>
          intro i q0 q1
          have e3 := cpyI_s (dst := md) (src := bwI w r n) (dO := 0) (sO := 0) q0
          rw [Int.zero_add] at e3
          refine g_iload_n (q := 34) dX6_backward_33 rfl rfl ?_
          refine g_iload_n (q := 35) dX6_backward_34 rfl rfl ?_
          refine g_icmp_ge (t := 60) (q := 38) dX6_backward_35 (by decide) rfl (by first | assumption | exact in32_gB | exact in32_gCmp | (unfold in32; omega)) (by first | assumption | exact in32_gB | exact in32_gCmp | (unfold in32; omega)) (fun c35 => ?_) (fun c35 => ?_)
          · exact absurd c35 (by omega)
          · refine g_aload_n (q := 39) dX6_backward_38 rfl rfl ?_
            refine gm_get (k := 30) (q := 42) dX6_backward_39 q1424 (by decide) rfl rfl ?_
            refine g_iload_n (q := 43) dX6_backward_42 rfl rfl ?_
            refine g_aload_n (q := 44) dX6_backward_43 rfl rfl ?_
            refine g_iload_n (q := 45) dX6_backward_44 rfl rfl ?_
            refine g_iload_n (q := 46) dX6_backward_45 rfl rfl ?_
            refine g_iconst (q := 47) dX6_backward_46 rfl ?_
            refine g_isub (q := 48) dX6_backward_47 rfl ?_
            refine g_iload_n (q := 49) dX6_backward_48 rfl rfl ?_
            refine g_isub (q := 50) dX6_backward_49 rfl ?_
            refine g_cv (I' := iX6_thingOf) (mc := 0) (ms := 0) (rc := 0) (rs := 0) (ci := 7) (q := 53) dX6_backward_50 q1668 q1670 rfl qs64 gcX6_thingOf mO (c_thingOf z.1 (by omega) (by omega) (by omega)) rfl rfl ?_
            refine gm_st30 (q := 54) dX6_backward_53 (by omega) (by omega)  rfl ?_
            rw [show w (34 + 14 * r + 1 + (n - 1 - i)) = bwI w r n i from rfl, e3]
            refine g_iinc (q := 57) dX6_backward_54 rfl gs3 rfl ?_
            refine g_goto (t := 33) dX6_backward_57 (by decide) ?_
            exact ih _ (by omega) (by omega)
      show GO E iX6_backward _ _ _ 0 [some (.ref am), some (vI r), none, none] [] _ _
      refine g_aload_n (q := 1) dX6_backward_0 rfl rfl ?_
      refine g_iload_n (q := 2) dX6_backward_1 rfl rfl ?_
      refine g_cv (I' := iX6_isRow) (mc := 0) (ms := 0) (rc := 0) (rs := 0) (ci := 7) (q := 5) dX6_backward_2 q1651 q1653 rfl qs60 gcX6_isRow mO (c_isRowM h1 hw.2.1) rfl rfl ?_
      refine g_ifneB (t := 11) (q := 8) dX6_backward_5 (by decide) rfl (fun c5 => ?_) (fun c5 => ?_)
      · refine g_aload_n (q := 12) dX6_backward_11 rfl rfl ?_
        refine gm_get (k := 1) (q := 15) dX6_backward_12 q1395 (by decide) rfl rfl ?_
        refine g_iconst (q := 16) dX6_backward_15 rfl ?_
        refine g_iald (q := 17) dX6_backward_16 mA1 (by omega) (by omega) rfl ?_
        refine g_bipush (q := 19) dX6_backward_17 rfl ?_
        refine g_icmp_ne (t := 25) (q := 22) dX6_backward_19 (by decide) rfl (by first | assumption | exact in32_gB | exact in32_gCmp | (unfold in32; omega)) (by first | assumption | exact in32_gB | exact in32_gCmp | (unfold in32; omega)) (fun c19 => ?_) (fun c19 => ?_)
        · refine g_aload_n (q := 26) dX6_backward_25 rfl rfl ?_
          refine g_iload_n (q := 27) dX6_backward_26 rfl rfl ?_
          refine g_cv (I' := iX6_manyOf) (mc := 0) (ms := 0) (rc := 0) (rs := 0) (ci := 7) (q := 30) dX6_backward_27 q1660 q1662 rfl qs62 gcX6_manyOf mO (c_manyOf z.1 (by omega)) rfl rfl ?_
          rw [en]
          refine g_istore_n (q := 31) dX6_backward_30 gs2 rfl ?_
          refine g_iconst (q := 32) dX6_backward_31 rfl ?_
          refine g_istore_n (q := 33) dX6_backward_32 gs3 rfl ?_
          have := loop n.toNat 0 (by omega) (by omega)
          rw [cpyI_0] at this
          exact this
        · exact absurd c19 z2
      · exact absurd z c5
  · rw [if_pos z, if_neg (fun c => z c.1)]
    show GO E iX6_backward _ _ _ 0 [some (.ref am), some (vI r), none, none] [] _ _
    refine g_aload_n (q := 1) dX6_backward_0 rfl rfl ?_
    refine g_iload_n (q := 2) dX6_backward_1 rfl rfl ?_
    refine g_cv (I' := iX6_isRow) (mc := 0) (ms := 0) (rc := 0) (rs := 0) (ci := 7) (q := 5) dX6_backward_2 q1651 q1653 rfl qs60 gcX6_isRow mO (c_isRowM h1 hw.2.1) rfl rfl ?_
    refine g_ifneB (t := 11) (q := 8) dX6_backward_5 (by decide) rfl (fun c5 => ?_) (fun c5 => ?_)
    · exact absurd c5 z
    · refine g_bipush (q := 10) dX6_backward_8 rfl ?_
      exact g_iret dX6_backward_10 rfl ⟨rfl, rfl⟩
theorem c_thing (hw : WFw w) (h1 : in32 r) (h2 : in32 i) : CALL E iX6_thing (d + 2) 0 0 [.ref am, vI r, vI i] (mH E G am th w hs si lo bk iW iH iB iL iS tp td fv sz pa fr tk vl fk fp fsh hdt lt kl kn cp cd bp bl md sw nd mn my wd nm mv) (qR (vI (if ¬ (0 ≤ r ∧ r ≤ w 2 - 1) then -2 else if 0 ≤ i ∧ i ≤ w (34 + 14 * r) - 1 then w (34 + 14 * r + 1 + i) else -1)) (mH E G am th w hs si lo bk iW iH iB iL iS tp td fv sz pa fr tk vl fk fp fsh hdt lt kl kn cp cd bp bl md sw nd mn my wd nm mv)) := by
  have h3 := h2.1
  have h4 := h2.2
  have h12 := hw.2.1
  by_cases z : 0 ≤ r ∧ r ≤ w 2 - 1
  · have hrow := hw.row z.1 (show r < w 2 by omega)
    rw [if_neg (fun c => c z)]
    show GO E iX6_thing _ _ _ 0 [some (.ref am), some (vI r), some (vI i)] [] _ _
    refine g_aload_n (q := 1) dX6_thing_0 rfl rfl ?_
    refine g_iload_n (q := 2) dX6_thing_1 rfl rfl ?_
    refine g_cv (I' := iX6_isRow) (mc := 0) (ms := 0) (rc := 0) (rs := 0) (ci := 7) (q := 5) dX6_thing_2 q1651 q1653 rfl qs60 gcX6_isRow mO (c_isRowM h1 hw.2.1) rfl rfl ?_
    refine g_ifneB (t := 11) (q := 8) dX6_thing_5 (by decide) rfl (fun c5 => ?_) (fun c5 => ?_)
    · refine g_iload_n (q := 12) dX6_thing_11 rfl rfl ?_
      refine g_i2l (q := 13) dX6_thing_12 (by first | assumption | exact in32_gB | exact in32_gCmp | (unfold in32; omega)) rfl ?_
      refine g_lconst0 (q := 14) dX6_thing_13 rfl ?_
      refine g_aload_n (q := 15) dX6_thing_14 rfl rfl ?_
      refine g_iload_n (q := 16) dX6_thing_15 rfl rfl ?_
      refine g_cv (I' := iX6_manyOf) (mc := 0) (ms := 0) (rc := 0) (rs := 0) (ci := 7) (q := 19) dX6_thing_16 q1660 q1662 rfl qs62 gcX6_manyOf mO (c_manyOf z.1 (by omega)) rfl rfl ?_
      refine g_iconst (q := 20) dX6_thing_19 rfl ?_
      refine g_isub (q := 21) dX6_thing_20 rfl ?_
      refine g_i2l (q := 22) dX6_thing_21 (by first | assumption | exact in32_gB | exact in32_gCmp | (unfold in32; omega)) rfl ?_
      refine g_cs (I' := iX6_in) (mc := 0) (ms := 0) (rc := 0) (rs := 0) (q := 25) dX6_thing_22 q1514 q1515 gcX6_in (c_inM (by unfold in64; omega) (by unfold in64; omega) (by unfold in64; omega)) rfl rfl ?_
      refine g_ifeqB (t := 37) (q := 28) dX6_thing_25 (by decide) rfl (fun c25 => ?_) (fun c25 => ?_)
      · refine g_iconst (q := 38) dX6_thing_37 rfl ?_
        exact g_iret dX6_thing_38 rfl ⟨rI (by first | exact (if_pos c25).symm | exact (if_neg c25).symm), rfl⟩
      · refine g_aload_n (q := 29) dX6_thing_28 rfl rfl ?_
        refine g_iload_n (q := 30) dX6_thing_29 rfl rfl ?_
        refine g_iload_n (q := 31) dX6_thing_30 rfl rfl ?_
        refine g_cv (I' := iX6_thingOf) (mc := 0) (ms := 0) (rc := 0) (rs := 0) (ci := 7) (q := 34) dX6_thing_31 q1668 q1670 rfl qs64 gcX6_thingOf mO (c_thingOf z.1 (by omega) (by omega) (by omega)) rfl rfl ?_
        refine g_goto (t := 38) dX6_thing_34 (by decide) ?_
        exact g_iret dX6_thing_38 rfl ⟨rI (by first | exact (if_pos c25).symm | exact (if_neg c25).symm), rfl⟩
    · exact absurd z c5
  · rw [if_pos z]
    show GO E iX6_thing _ _ _ 0 [some (.ref am), some (vI r), some (vI i)] [] _ _
    refine g_aload_n (q := 1) dX6_thing_0 rfl rfl ?_
    refine g_iload_n (q := 2) dX6_thing_1 rfl rfl ?_
    refine g_cv (I' := iX6_isRow) (mc := 0) (ms := 0) (rc := 0) (rs := 0) (ci := 7) (q := 5) dX6_thing_2 q1651 q1653 rfl qs60 gcX6_isRow mO (c_isRowM h1 hw.2.1) rfl rfl ?_
    refine g_ifneB (t := 11) (q := 8) dX6_thing_5 (by decide) rfl (fun c5 => ?_) (fun c5 => ?_)
    · exact absurd c5 z
    · refine g_bipush (q := 10) dX6_thing_8 rfl ?_
      exact g_iret dX6_thing_10 rfl ⟨rfl, rfl⟩
end
