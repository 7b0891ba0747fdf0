/-! THE COMPONENT: what is asked of paper -/
set_option maxRecDepth 100000
theorem orM_41 {n : Int} (h : n = -1 ∨ (1 ≤ n ∧ n ≤ 40)) : 1 ≤ orM n ∧ orM n ≤ 41 := by
  unfold orM
  split <;> omega
section
variable {E : gE} {d rc rs x : Nat} {mf : Nat → va_E} {ow : OW} {h : gH} {w hs bk tp iL iS my wd : Int → Int} {uW uH uB uN : Int → Int → Int} {si lo td fk fp : Int}
variable {r r2 v n B kn wo i s l c b : Int} {ra t : Nat} {hs1 : Int → Int} {k : gH}
theorem c_needsX (hX : (XR E x mf ow h w hs si lo bk uW uH uB iL iS tp td fk fp my wd uN)) (hw : WFw w) (hh : HSok B hs) (hZ : HZ w hs) (hB0 : 0 ≤ B) (hB : B ≤ 800000000) (hkn : in32 kn) (h1 : in32 r) :
    CALL E iX0_needs (d + 1305) 0 0 [.ref x, vI r] h (qP fun o k => o = vI (if 0 ≤ r ∧ r ≤ w 2 - 1 then (mLearns w hs (-1) kn r).1 else -2) ∧ (XR E x mf ow k w hs si lo bk uW uH uB iL iS tp td fk fp my wd uN)) := by
  obtain ⟨x1, x2, ⟨w3, bl, tq, pl, bp, hC, -⟩, -⟩ := id hX
  show GO E iX0_needs _ _ _ 0 [some (.ref x), some (vI r)] [] _ _
  refine g_aload_n (q := 1) dX0_needs_0 rfl rfl ?_
  refine g_iload_n (q := 2) dX0_needs_1 rfl rfl ?_
  refine g_cv (I' := iX0_isRow) (mc := 0) (ms := 0) (rc := 0) (rs := 0) (ci := 0) (q := 5) dX0_needs_2 q983 q985 rfl qs26 gcX0_isRow hC (GO.deep (c_isRowX (d := 0) hX h1 ⟨hw.2.1.1, hw.2.1.2⟩) (by omega)) rfl rfl ?_
  refine g_ifeqB (t := 17) (q := 8) dX0_needs_5 (by decide) rfl (fun c5 => ?_) (fun c5 => ?_)
  · refine g_bipush (q := 19) dX0_needs_17 rfl ?_
    exact g_iret dX0_needs_19 rfl (by first | exact ⟨_, rfl, congrArg vI (if_pos c5).symm, hX11⟩ | exact ⟨_, rfl, congrArg vI (if_neg c5).symm, hX⟩)
  · refine g_aload_n (q := 9) dX0_needs_8 rfl rfl ?_
    refine g_iload_n (q := 10) dX0_needs_9 rfl rfl ?_
    refine g_iconst (q := 11) dX0_needs_10 rfl ?_
    refine g_cvP (I' := iX0_needsOf) (mc := 0) (ms := 0) (rc := 0) (rs := 0) (ci := 0) (q := 14) dX0_needs_11 q1200 q1202 rfl qs33 gcX0_needsOf hC (c_needsOfX (kn := kn) hX hw hh hZ hB0 hB hkn (by omega) (by omega) (by omega)) rfl rfl (fun v11 k11 z11 => ?_)
    obtain ⟨rfl, hX11⟩ := z11
    refine g_goto (t := 19) dX0_needs_14 (by decide) ?_
    exact g_iret dX0_needs_19 rfl (by first | exact ⟨_, rfl, congrArg vI (if_pos c5).symm, hX11⟩ | exact ⟨_, rfl, congrArg vI (if_neg c5).symm, hX⟩)
theorem c_freshX (hX : (XR E x mf ow h w hs si lo bk uW uH uB iL iS tp td fk fp my wd uN)) (hw : WFw w) (hh : HSok B hs) (hB0 : 0 ≤ B) (hB : B ≤ 800000000) (hkn : in32 kn) (h1 : in32 r) :
    CALL E iX0_fresh (d + 1305) 0 0 [.ref x, vI r] h (qP fun o k => o = vI (if 0 ≤ r ∧ r ≤ w 2 - 1 then (mLearns w (mZero hs) (-1) kn r).1 else -2) ∧ (XR E x mf ow k w hs si lo bk uW uH uB iL iS tp td fk fp my wd uN)) := by
  obtain ⟨x1, x2, ⟨w3, bl, tq, pl, bp, hC, -⟩, -⟩ := id hX
  show GO E iX0_fresh _ _ _ 0 [some (.ref x), some (vI r)] [] _ _
  refine g_aload_n (q := 1) dX0_fresh_0 rfl rfl ?_
  refine g_iload_n (q := 2) dX0_fresh_1 rfl rfl ?_
  refine g_cv (I' := iX0_isRow) (mc := 0) (ms := 0) (rc := 0) (rs := 0) (ci := 0) (q := 5) dX0_fresh_2 q983 q985 rfl qs26 gcX0_isRow hC (GO.deep (c_isRowX (d := 0) hX h1 ⟨hw.2.1.1, hw.2.1.2⟩) (by omega)) rfl rfl ?_
  refine g_ifeqB (t := 17) (q := 8) dX0_fresh_5 (by decide) rfl (fun c5 => ?_) (fun c5 => ?_)
  · refine g_bipush (q := 19) dX0_fresh_17 rfl ?_
    exact g_iret dX0_fresh_19 rfl (by first | exact ⟨_, rfl, congrArg vI (if_pos c5).symm, hX11⟩ | exact ⟨_, rfl, congrArg vI (if_neg c5).symm, hX⟩)
  · refine g_aload_n (q := 9) dX0_fresh_8 rfl rfl ?_
    refine g_iload_n (q := 10) dX0_fresh_9 rfl rfl ?_
    refine g_iconst (q := 11) dX0_fresh_10 rfl ?_
    refine g_cvP (I' := iX0_freshOf) (mc := 0) (ms := 0) (rc := 0) (rs := 0) (ci := 0) (q := 14) dX0_fresh_11 q1217 q1219 rfl qs35 gcX0_freshOf hC (c_freshOfX (kn := kn) hX hw hh hB0 hB hkn (by omega) (by omega) (by omega)) rfl rfl (fun v11 k11 z11 => ?_)
    obtain ⟨rfl, hX11⟩ := z11
    refine g_goto (t := 19) dX0_fresh_14 (by decide) ?_
    exact g_iret dX0_fresh_19 rfl (by first | exact ⟨_, rfl, congrArg vI (if_pos c5).symm, hX11⟩ | exact ⟨_, rfl, congrArg vI (if_neg c5).symm, hX⟩)
theorem c_afterX (hX : (XR E x mf ow h w hs si lo bk uW uH uB iL iS tp td fk fp my wd uN)) (hw : WFw w) (hh : HSok B hs) (hZ : HZ w hs) (hB0 : 0 ≤ B) (hB : B ≤ 800000000) (hkn : in32 kn) (h1 : in32 r) (h2 : in32 v) :
    CALL E iX0_after (d + 1305) 0 0 [.ref x, vI r, vI v] h (qP fun o k => o = vI (if (0 ≤ r ∧ r ≤ w 2 - 1) ∧ (0 ≤ v ∧ v ≤ 200) then (mLearns w (mHours w (-1) kn v.toNat hs) (-1) kn r).1 else -2) ∧ (XR E x mf ow k w hs si lo bk uW uH uB iL iS tp td fk fp my wd uN)) := by
  obtain ⟨x1, x2, ⟨w3, bl, tq, pl, bp, hC, -⟩, -⟩ := id hX
  show GO E iX0_after _ _ _ 0 [some (.ref x), some (vI r), some (vI v)] [] _ _
  refine g_aload_n (q := 1) dX0_after_0 rfl rfl ?_
  refine g_iload_n (q := 2) dX0_after_1 rfl rfl ?_
  refine g_cv (I' := iX0_isRow) (mc := 0) (ms := 0) (rc := 0) (rs := 0) (ci := 0) (q := 5) dX0_after_2 q983 q985 rfl qs26 gcX0_isRow hC (GO.deep (c_isRowX (d := 0) hX h1 ⟨hw.2.1.1, hw.2.1.2⟩) (by omega)) rfl rfl ?_
  refine g_ifeqB (t := 24) (q := 8) dX0_after_5 (by decide) rfl (fun c5 => ?_) (fun c5 => ?_)
  · refine g_bipush (q := 26) dX0_after_24 rfl ?_
    exact g_iret dX0_after_26 rfl (by first | exact ⟨_, rfl, congrArg vI (if_pos ⟨c5, c12⟩).symm, hX18⟩ | exact ⟨_, rfl, congrArg vI (if_neg (fun q => c12 q.2)).symm, hX⟩ | exact ⟨_, rfl, congrArg vI (if_neg (fun q => c5 q.1)).symm, hX⟩)
  · refine g_iload_n (q := 9) dX0_after_8 rfl rfl ?_
    refine g_cs (I' := iX0_areHours) (mc := 0) (ms := 0) (rc := 0) (rs := 0) (q := 12) dX0_after_9 q1146 q1147 gcX0_areHours (GO.deep (c_areHours (d := 0) h2) (by omega)) rfl rfl ?_
    refine g_ifeqB (t := 24) (q := 15) dX0_after_12 (by decide) rfl (fun c12 => ?_) (fun c12 => ?_)
    · refine g_bipush (q := 26) dX0_after_24 rfl ?_
      exact g_iret dX0_after_26 rfl (by first | exact ⟨_, rfl, congrArg vI (if_pos ⟨c5, c12⟩).symm, hX18⟩ | exact ⟨_, rfl, congrArg vI (if_neg (fun q => c12 q.2)).symm, hX⟩ | exact ⟨_, rfl, congrArg vI (if_neg (fun q => c5 q.1)).symm, hX⟩)
    · refine g_aload_n (q := 16) dX0_after_15 rfl rfl ?_
      refine g_iload_n (q := 17) dX0_after_16 rfl rfl ?_
      refine g_iload_n (q := 18) dX0_after_17 rfl rfl ?_
      refine g_cvP (I' := iX0_needsOf) (mc := 0) (ms := 0) (rc := 0) (rs := 0) (ci := 0) (q := 21) dX0_after_18 q1200 q1202 rfl qs33 gcX0_needsOf hC (c_needsOfX (kn := kn) hX hw hh hZ hB0 hB hkn (by omega) (by omega) (by omega)) rfl rfl (fun v18 k18 z18 => ?_)
      obtain ⟨rfl, hX18⟩ := z18
      refine g_goto (t := 26) dX0_after_21 (by decide) ?_
      exact g_iret dX0_after_26 rfl (by first | exact ⟨_, rfl, congrArg vI (if_pos ⟨c5, c12⟩).symm, hX18⟩ | exact ⟨_, rfl, congrArg vI (if_neg (fun q => c12 q.2)).symm, hX⟩ | exact ⟨_, rfl, congrArg vI (if_neg (fun q => c5 q.1)).symm, hX⟩)
theorem c_savingX (hX : (XR E x mf ow h w hs si lo bk uW uH uB iL iS tp td fk fp my wd uN)) (hw : WFw w) (hh : HSok B hs) (hZ : HZ w hs) (hB0 : 0 ≤ B) (hB : B ≤ 800000000) (hkn : in32 kn) (h1 : in32 r) :
    CALL E iX0_saving (d + 1305) 0 0 [.ref x, vI r] h (qP fun o k => o = vI (if 0 ≤ r ∧ r ≤ w 2 - 1 then savI (mLearns w (mZero hs) (-1) kn r).1 (mLearns w hs (-1) kn r).1 else -2000000000) ∧ (XR E x mf ow k w hs si lo bk uW uH uB iL iS tp td fk fp my wd uN)) := by
  obtain ⟨x1, x2, ⟨w3, bl, tq, pl, bp, hC, -⟩, -⟩ := id hX
  show GO E iX0_saving _ _ _ 0 [some (.ref x), some (vI r), none, none] [] _ _
  refine g_aload_n (q := 1) dX0_saving_0 rfl rfl ?_
  refine g_iload_n (q := 2) dX0_saving_1 rfl rfl ?_
  refine g_cv (I' := iX0_isRow) (mc := 0) (ms := 0) (rc := 0) (rs := 0) (ci := 0) (q := 5) dX0_saving_2 q983 q985 rfl qs26 gcX0_isRow hC (GO.deep (c_isRowX (d := 0) hX h1 ⟨hw.2.1.1, hw.2.1.2⟩) (by omega)) rfl rfl ?_
  refine g_ifneB (t := 11) (q := 8) dX0_saving_5 (by decide) rfl (fun c5 => ?_) (fun c5 => ?_)
  · refine g_aload_n (q := 12) dX0_saving_11 rfl rfl ?_
    refine g_iload_n (q := 13) dX0_saving_12 rfl rfl ?_
    refine g_iconst (q := 14) dX0_saving_13 rfl ?_
    refine g_cvP (I' := iX0_needsOf) (mc := 0) (ms := 0) (rc := 0) (rs := 0) (ci := 0) (q := 17) dX0_saving_14 q1200 q1202 rfl qs33 gcX0_needsOf hC (c_needsOfX (kn := kn) hX hw hh hZ hB0 hB hkn (by omega) (by omega) (by omega)) rfl rfl (fun v14 k14 z14 => ?_)
    obtain ⟨rfl, hX14⟩ := z14
    obtain ⟨-, -, ⟨-, bl4, -, -, -, hC4, -⟩, -⟩ := id hX14
    refine g_istore_n (q := 18) dX0_saving_17 gs2 rfl ?_
    refine g_aload_n (q := 19) dX0_saving_18 rfl rfl ?_
    refine g_iload_n (q := 20) dX0_saving_19 rfl rfl ?_
    refine g_iconst (q := 21) dX0_saving_20 rfl ?_
    refine g_cvP (I' := iX0_freshOf) (mc := 0) (ms := 0) (rc := 0) (rs := 0) (ci := 0) (q := 24) dX0_saving_21 q1217 q1219 rfl qs35 gcX0_freshOf hC4 (c_freshOfX (kn := kn) hX14 hw hh hB0 hB hkn (by omega) (by omega) (by omega)) rfl rfl (fun v21 k21 z21 => ?_)
    obtain ⟨rfl, hX21⟩ := z21
    have ok1 := (mLearns_ok (kl := -1) (kn := kn) hw (r := r) (by omega) (by omega) hh).2
    have ok2 := (mLearns_ok (kl := -1) (kn := kn) hw (r := r) (by omega) (by omega) (hh.zero hB0)).2
    show GO E iX0_saving _ _ _ 24 _ [vI (mLearns w (mZero hs) (-1) kn r).1] _ _
    refine GO.loc (lv' := [some (.ref x), some (vI r), some (vI (mLearns w hs (-1) kn r).1), none]) rfl ?_
    rw [if_pos c5]
    generalize (mLearns w (mZero hs) (-1) kn r).1 = y at *
    generalize (mLearns w hs (-1) kn r).1 = z at *
    refine g_istore_n (q := 25) dX0_saving_24 gs3 rfl ?_
    refine g_iload_n (q := 26) dX0_saving_25 rfl rfl ?_
    refine g_iconst (q := 27) dX0_saving_26 rfl ?_
    refine g_icmp_eq (t := 35) (q := 30) dX0_saving_27 (by decide) rfl (by first | assumption | exact in32_gB | exact in32_gCmp | (unfold in32; omega)) (by first | assumption | exact in32_gB | exact in32_gCmp | (unfold in32; omega)) (fun c27 => ?_) (fun c27 => ?_)
    · refine g_ldc (a := -2000000000) (q := 37) dX0_saving_35 q1226 (by decide) rfl ?_
      refine g_goto (t := 49) dX0_saving_37 (by decide) ?_
      exact g_iret dX0_saving_49 rfl ⟨_, rfl, congrArg vI (by unfold savI; first | rw [if_pos (by omega)] | rw [if_neg (by omega)]), hX21⟩
    · refine g_iload_n (q := 31) dX0_saving_30 rfl rfl ?_
      refine g_iconst (q := 32) dX0_saving_31 rfl ?_
      refine g_icmp_ne (t := 40) (q := 35) dX0_saving_32 (by decide) rfl (by first | assumption | exact in32_gB | exact in32_gCmp | (unfold in32; omega)) (by first | assumption | exact in32_gB | exact in32_gCmp | (unfold in32; omega)) (fun c32 => ?_) (fun c32 => ?_)
      · refine g_sipush (q := 43) dX0_saving_40 rfl ?_
        refine g_iload_n (q := 44) dX0_saving_43 rfl rfl ?_
        refine g_iload_n (q := 45) dX0_saving_44 rfl rfl ?_
        refine g_isub (q := 46) dX0_saving_45 rfl ?_
        refine g_imul (q := 47) dX0_saving_46 rfl ?_
        refine g_iload_n (q := 48) dX0_saving_47 rfl rfl ?_
        refine g_idiv (q := 49) dX0_saving_48 (by first | assumption | exact in32_gB | exact in32_gCmp | (unfold in32; omega)) (by first | assumption | exact in32_gB | exact in32_gCmp | (unfold in32; omega)) (by omega) rfl ?_
        exact g_iret dX0_saving_49 rfl ⟨_, rfl, congrArg vI (by unfold savI; first | rw [if_pos (by omega)] | rw [if_neg (by omega)]), hX21⟩
      · refine g_ldc (a := -2000000000) (q := 37) dX0_saving_35 q1226 (by decide) rfl ?_
        refine g_goto (t := 49) dX0_saving_37 (by decide) ?_
        exact g_iret dX0_saving_49 rfl ⟨_, rfl, congrArg vI (by unfold savI; first | rw [if_pos (by omega)] | rw [if_neg (by omega)]), hX21⟩
  · refine g_ldc (a := -2000000000) (q := 10) dX0_saving_8 q1226 (by decide) rfl ?_
    exact g_iret dX0_saving_10 rfl ⟨_, rfl, congrArg vI (if_neg c5).symm, hX⟩
theorem c_verseX (hX : (XR E x mf ow h w hs si lo bk uW uH uB iL iS tp td fk fp my wd uN)) (hw : WFw w) (hh : HSok B hs) (hB0 : 0 ≤ B) (hB : B ≤ 800000000) (hkn : in32 kn) (h1 : in32 r) (h2 : in32 r2) :
    CALL E iX0_verse (d + 1305) 0 0 [.ref x, vI r, vI r2] h (qP fun o k => o = vI (if (0 ≤ r ∧ r ≤ w 2 - 1) ∧ (0 ≤ r2 ∧ r2 ≤ w 2 - 1) then verI (mLearns w (mZero hs) (-1) kn r).1 (mLearns w (mZero hs) (-1) kn r2).1 else -2000000000) ∧ (XR E x mf ow k w hs si lo bk uW uH uB iL iS tp td fk fp my wd uN)) := by
  obtain ⟨x1, x2, ⟨w3, bl, tq, pl, bp, hC, -⟩, -⟩ := id hX
  show GO E iX0_verse _ _ _ 0 [some (.ref x), some (vI r), some (vI r2), none, none] [] _ _
  refine g_aload_n (q := 1) dX0_verse_0 rfl rfl ?_
  refine g_iload_n (q := 2) dX0_verse_1 rfl rfl ?_
  refine g_cv (I' := iX0_isRow) (mc := 0) (ms := 0) (rc := 0) (rs := 0) (ci := 0) (q := 5) dX0_verse_2 q983 q985 rfl qs26 gcX0_isRow hC (GO.deep (c_isRowX (d := 0) hX h1 ⟨hw.2.1.1, hw.2.1.2⟩) (by omega)) rfl rfl ?_
  refine g_ifeqB (t := 16) (q := 8) dX0_verse_5 (by decide) rfl (fun c5 => ?_) (fun c5 => ?_)
  · refine g_ldc (a := -2000000000) (q := 18) dX0_verse_16 q1226 (by decide) rfl ?_
    exact g_iret dX0_verse_18 rfl (by first | exact ⟨_, rfl, congrArg vI (if_neg (fun q => c13 q.2)).symm, hX⟩ | exact ⟨_, rfl, congrArg vI (if_neg (fun q => c5 q.1)).symm, hX⟩)
  · refine g_aload_n (q := 9) dX0_verse_8 rfl rfl ?_
    refine g_iload_n (q := 10) dX0_verse_9 rfl rfl ?_
    refine g_cv (I' := iX0_isRow) (mc := 0) (ms := 0) (rc := 0) (rs := 0) (ci := 0) (q := 13) dX0_verse_10 q983 q985 rfl qs26 gcX0_isRow hC (GO.deep (c_isRowX (d := 0) hX h2 ⟨hw.2.1.1, hw.2.1.2⟩) (by omega)) rfl rfl ?_
    refine g_ifneB (t := 19) (q := 16) dX0_verse_13 (by decide) rfl (fun c13 => ?_) (fun c13 => ?_)
    · refine g_aload_n (q := 20) dX0_verse_19 rfl rfl ?_
      refine g_iload_n (q := 21) dX0_verse_20 rfl rfl ?_
      refine g_iconst (q := 22) dX0_verse_21 rfl ?_
      refine g_cvP (I' := iX0_freshOf) (mc := 0) (ms := 0) (rc := 0) (rs := 0) (ci := 0) (q := 25) dX0_verse_22 q1217 q1219 rfl qs35 gcX0_freshOf hC (c_freshOfX (kn := kn) hX hw hh hB0 hB hkn (by omega) (by omega) (by omega)) rfl rfl (fun v22 k22 z22 => ?_)
      obtain ⟨rfl, hX22⟩ := z22
      obtain ⟨-, -, ⟨-, bl4, -, -, -, hC4, -⟩, -⟩ := id hX22
      refine g_istore_n (q := 26) dX0_verse_25 gs3 rfl ?_
      refine g_aload_n (q := 27) dX0_verse_26 rfl rfl ?_
      refine g_iload_n (q := 28) dX0_verse_27 rfl rfl ?_
      refine g_iconst (q := 29) dX0_verse_28 rfl ?_
      refine g_cvP (I' := iX0_freshOf) (mc := 0) (ms := 0) (rc := 0) (rs := 0) (ci := 0) (q := 32) dX0_verse_29 q1217 q1219 rfl qs35 gcX0_freshOf hC4 (c_freshOfX (kn := kn) hX22 hw hh hB0 hB hkn (by omega) (by omega) (by omega)) rfl rfl (fun v29 k29 z29 => ?_)
      obtain ⟨rfl, hX29⟩ := z29
      have ok1 := (mLearns_ok (kl := -1) (kn := kn) hw (r := r) (by omega) (by omega) (hh.zero hB0)).2
      have ok2 := (mLearns_ok (kl := -1) (kn := kn) hw (r := r2) (by omega) (by omega) (hh.zero hB0)).2
      show GO E iX0_verse _ _ _ 32 _ [vI (mLearns w (mZero hs) (-1) kn r2).1] _ _
      refine GO.loc (lv' := [some (.ref x), some (vI r), some (vI r2), some (vI (mLearns w (mZero hs) (-1) kn r).1), none]) rfl ?_
      rw [if_pos ⟨c5, c13⟩]
      generalize (mLearns w (mZero hs) (-1) kn r).1 = y at *
      generalize (mLearns w (mZero hs) (-1) kn r2).1 = z at *
      refine g_istore (q := 34) dX0_verse_32 gs4 rfl ?_
      refine g_iload_n (q := 35) dX0_verse_34 rfl rfl ?_
      refine g_iconst (q := 36) dX0_verse_35 rfl ?_
      refine g_icmp_eq (t := 45) (q := 39) dX0_verse_36 (by decide) rfl (by first | assumption | exact in32_gB | exact in32_gCmp | (unfold in32; omega)) (by first | assumption | exact in32_gB | exact in32_gCmp | (unfold in32; omega)) (fun c36 => ?_) (fun c36 => ?_)
      · refine g_ldc (a := -2000000000) (q := 47) dX0_verse_45 q1226 (by decide) rfl ?_
        refine g_goto (t := 58) dX0_verse_47 (by decide) ?_
        exact g_iret dX0_verse_58 rfl ⟨_, rfl, congrArg vI (by unfold verI; first | rw [if_pos (by omega)] | rw [if_neg (by omega)]), hX29⟩
      · refine g_iload (q := 41) dX0_verse_39 rfl rfl ?_
        refine g_iconst (q := 42) dX0_verse_41 rfl ?_
        refine g_icmp_ne (t := 50) (q := 45) dX0_verse_42 (by decide) rfl (by first | assumption | exact in32_gB | exact in32_gCmp | (unfold in32; omega)) (by first | assumption | exact in32_gB | exact in32_gCmp | (unfold in32; omega)) (fun c42 => ?_) (fun c42 => ?_)
        · refine g_sipush (q := 53) dX0_verse_50 rfl ?_
          refine g_iload_n (q := 54) dX0_verse_53 rfl rfl ?_
          refine g_imul (q := 55) dX0_verse_54 rfl ?_
          refine g_iload (q := 57) dX0_verse_55 rfl rfl ?_
          refine g_idiv (q := 58) dX0_verse_57 (by first | assumption | exact in32_gB | exact in32_gCmp | (unfold in32; omega)) (by first | assumption | exact in32_gB | exact in32_gCmp | (unfold in32; omega)) (by omega) rfl ?_
          exact g_iret dX0_verse_58 rfl ⟨_, rfl, congrArg vI (by unfold verI; first | rw [if_pos (by omega)] | rw [if_neg (by omega)]), hX29⟩
        · refine g_ldc (a := -2000000000) (q := 47) dX0_verse_45 q1226 (by decide) rfl ?_
          refine g_goto (t := 58) dX0_verse_47 (by decide) ?_
          exact g_iret dX0_verse_58 rfl ⟨_, rfl, congrArg vI (by unfold verI; first | rw [if_pos (by omega)] | rw [if_neg (by omega)]), hX29⟩
    · refine g_ldc (a := -2000000000) (q := 18) dX0_verse_16 q1226 (by decide) rfl ?_
      exact g_iret dX0_verse_18 rfl (by first | exact ⟨_, rfl, congrArg vI (if_neg (fun q => c13 q.2)).symm, hX⟩ | exact ⟨_, rfl, congrArg vI (if_neg (fun q => c5 q.1)).symm, hX⟩)
theorem c_withoutX (hX : (XR E x mf ow h w hs si lo bk uW uH uB iL iS tp td fk fp my wd uN)) (hw : WFw w) (hh : HSok B hs) (hZ : HZ w hs) (hB : B ≤ 800000000) (hkn : in32 kn) (h1 : in32 r) (h2 : in32 s) :
    CALL E iX0_without (d + 1304) 0 0 [.ref x, vI r, vI s] h (qP fun o k => o = vI (if (0 ≤ r ∧ r ≤ w 2 - 1) ∧ (0 ≤ s ∧ s ≤ 3) then mWithout w hs (-1) kn r s else -2) ∧ (XR E x mf ow k w hs si lo bk uW uH uB iL iS tp td fk fp my wd uN)) := by
  obtain ⟨x1, x2, ⟨w3, bl, tq, pl, bp, hC, -⟩, ⟨t, s1, -⟩, -⟩ := id hX
  have hP := PP.of hX s1
  show GO E iX0_without _ _ _ 0 [some (.ref x), some (vI r), some (vI s)] [] _ _
  refine g_aload_n (q := 1) dX0_without_0 rfl rfl ?_
  refine g_iload_n (q := 2) dX0_without_1 rfl rfl ?_
  refine g_cv (I' := iX0_isRow) (mc := 0) (ms := 0) (rc := 0) (rs := 0) (ci := 0) (q := 5) dX0_without_2 q983 q985 rfl qs26 gcX0_isRow hC (GO.deep (c_isRowX (d := 0) hX h1 ⟨hw.2.1.1, hw.2.1.2⟩) (by omega)) rfl rfl ?_
  refine g_ifeqB (t := 31) (q := 8) dX0_without_5 (by decide) rfl (fun c5 => ?_) (fun c5 => ?_)
  · refine g_bipush (q := 33) dX0_without_31 rfl ?_
    exact g_iret dX0_without_33 rfl (by first | exact ⟨_, rfl, congrArg vI (if_pos ⟨c5, c12⟩).symm, hX.paperx hk18⟩ | exact ⟨_, rfl, congrArg vI (if_neg (fun q => c12 q.2)).symm, hX⟩ | exact ⟨_, rfl, congrArg vI (if_neg (fun q => c5 q.1)).symm, hX⟩)
  · refine g_iload_n (q := 9) dX0_without_8 rfl rfl ?_
    refine g_cs (I' := iX0_isSort) (mc := 0) (ms := 0) (rc := 0) (rs := 0) (q := 12) dX0_without_9 q1158 q1159 gcX0_isSort (GO.deep (c_isSortX (d := 0) h2) (by omega)) rfl rfl ?_
    refine g_ifeqB (t := 31) (q := 15) dX0_without_12 (by decide) rfl (fun c12 => ?_) (fun c12 => ?_)
    · refine g_bipush (q := 33) dX0_without_31 rfl ?_
      exact g_iret dX0_without_33 rfl (by first | exact ⟨_, rfl, congrArg vI (if_pos ⟨c5, c12⟩).symm, hX.paperx hk18⟩ | exact ⟨_, rfl, congrArg vI (if_neg (fun q => c12 q.2)).symm, hX⟩ | exact ⟨_, rfl, congrArg vI (if_neg (fun q => c5 q.1)).symm, hX⟩)
    · refine g_aload_n (q := 16) dX0_without_15 rfl rfl ?_
      refine g_cvP (I' := iX0_onPaper) (mc := 0) (ms := 0) (rc := 0) (rs := 0) (ci := 0) (q := 19) dX0_without_16 q1204 q1206 rfl qs34 gcX0_onPaper hC (GO.deep (c_onPaper (d := 0) hX s1) (by omega)) rfl rfl (fun v16 k16 z16 => ?_)
      obtain ⟨rfl, hk1⟩ := z16
      obtain ⟨bl1, hC1⟩ := hP.c hk1
      refine g_aload_n (q := 20) dX0_without_19 rfl rfl ?_
      refine g_iload_n (q := 21) dX0_without_20 rfl rfl ?_
      refine g_cvP (I' := iX0_rowAt) (mc := 0) (ms := 0) (rc := 0) (rs := 0) (ci := 0) (q := 24) dX0_without_21 q992 q994 rfl qs28 gcX0_rowAt hC1 (GO.deep (c_pRow (d := 0) hX hP hk1 (by omega) (by omega)) (by omega)) rfl rfl (fun v21 k21 z21 => ?_)
      obtain ⟨ra, rfl, hR, rfl⟩ := z21
      refine g_iload_n (q := 25) dX0_without_24 rfl rfl ?_
      refine g_cvP (I' := iX3_learns) (mc := 0) (ms := 0) (rc := 0) (rs := 0) (ci := 4) (q := 28) dX0_without_25 q1136 q1137 rfl q1138 gcX3_learns (PP.p hk1) (c_pLearn (kn := kn) hP hk1 hw hh hZ (by omega) hkn (by omega) (by omega) hR (by omega)) rfl rfl (fun v25 k25 z25 => ?_)
      obtain ⟨rfl, hZ18, hk18⟩ := z25
      rw [show woW w s = upI w (5 + s) 0 from if_pos c12.1] at *
      refine g_goto (t := 33) dX0_without_28 (by decide) ?_
      exact g_iret dX0_without_33 rfl (by first | exact ⟨_, rfl, congrArg vI (if_pos ⟨c5, c12⟩).symm, hX.paperx hk18⟩ | exact ⟨_, rfl, congrArg vI (if_neg (fun q => c12 q.2)).symm, hX⟩ | exact ⟨_, rfl, congrArg vI (if_neg (fun q => c5 q.1)).symm, hX⟩)
/-- how long it lasts: head at 18 -/
theorem l_lastsX (hX : (XR E x mf ow h w hs si lo bk uW uH uB iL iS tp td fk fp my wd uN)) (hP : PP E x mf ow h t w td fk fp) (hw : WFw w) (hkn : in32 kn) (hr : 0 ≤ r) (hr1 : r < w 2) : ∀ (f : Nat) (i B : Int) (hs1 : Int → Int) (k : gH), 0 ≤ i → i + f = 201 → HSok B hs1 → 0 ≤ B → B + f ≤ 900000000 → HZ w hs1 → hHx E h (x + 120) t hs1 k →
    GO E iX0_lasts (d + 1304) 0 0 18 [some (.ref x), some (vI r), some (vI i)] [] k (qP fun o k => o = vI (lastL w (-1) kn r f i hs1) ∧ (XR E x mf ow k w hs si lo bk uW uH uB iL iS tp td fk fp my wd uN)) := by
  intro f
  induction f with
  | zero =>
    intro i B hs1 k h0 h1 hh hB0 hB hZ hk
    refine g_iload_n (q := 19) dX0_lasts_18 rfl rfl ?_
    refine g_sipush (q := 22) dX0_lasts_19 rfl ?_
    refine g_icmp_gt (t := 57) (q := 25) dX0_lasts_22 (by decide) rfl (by first | assumption | exact in32_gB | exact in32_gCmp | (unfold in32; omega)) (by first | assumption | exact in32_gB | exact in32_gCmp | (unfold in32; omega)) (fun c22 => ?_) (fun c22 => ?_)
    · refine g_iconst (q := 58) dX0_lasts_57 rfl ?_
      exact g_iret dX0_lasts_58 rfl ⟨_, rfl, rfl, hX.paperx hk⟩
    · exact absurd c22 (by omega)
  | succ f ih =>
    intro i B hs1 k h0 h1 hh hB0 hB hZ hk
    obtain ⟨bl1, hC1⟩ := hP.c hk
    have hh2 := hh.hour (kl := -1) (kn := kn) hw hB0
    refine g_iload_n (q := 19) dX0_lasts_18 rfl rfl ?_
    refine g_sipush (q := 22) dX0_lasts_19 rfl ?_
    refine g_icmp_gt (t := 57) (q := 25) dX0_lasts_22 (by decide) rfl (by first | assumption | exact in32_gB | exact in32_gCmp | (unfold in32; omega)) (by first | assumption | exact in32_gB | exact in32_gCmp | (unfold in32; omega)) (fun c22 => ?_) (fun c22 => ?_)
    · exact absurd c22 (by omega)
    · refine g_aload_n (q := 26) dX0_lasts_25 rfl rfl ?_
      refine g_get (C := RX0) (T := TX0) (ci := 0) (k := 3) (q := 29) dX0_lasts_26 q521 rfl in_X0 (by decide) hC1 rfl rfl ?_
      refine g_aload_n (q := 30) dX0_lasts_29 rfl rfl ?_
      refine g_iload_n (q := 31) dX0_lasts_30 rfl rfl ?_
      refine g_cvP (I' := iX0_rowAt) (mc := 0) (ms := 0) (rc := 0) (rs := 0) (ci := 0) (q := 34) dX0_lasts_31 q992 q994 rfl qs28 gcX0_rowAt hC1 (GO.deep (c_pRow (d := 0) hX hP hk hr hr1) (by omega)) rfl rfl (fun v31 k31 z31 => ?_)
      obtain ⟨ra, rfl, hR, rfl⟩ := z31
      refine g_iconst (q := 35) dX0_lasts_34 rfl ?_
      refine g_cv (I' := iX3_slips) (mc := 0) (ms := 0) (rc := 0) (rs := 0) (ci := 4) (q := 38) dX0_lasts_35 q999 q1000 rfl q1001 gcX3_slips (PP.p hk) (GO.deep (c_pSlips (d := 0) hP hk hw hh hr hr1 hR) (by omega)) rfl rfl ?_
      refine g_if_eq (t := 43) (q := 41) dX0_lasts_38 (by decide) rfl mSlips_32 (fun c38 => ?_) (fun c38 => ?_)
      · refine g_aload_n (q := 44) dX0_lasts_43 rfl rfl ?_
        refine g_get (C := RX0) (T := TX0) (ci := 0) (k := 3) (q := 47) dX0_lasts_44 q521 rfl in_X0 (by decide) hC1 rfl rfl ?_
        refine g_iconst (q := 48) dX0_lasts_47 rfl ?_
        refine g_cvVP (I' := iX3_waits) (mc := 0) (ms := 0) (rc := 0) (rs := 0) (ci := 4) (q := 51) dX0_lasts_48 q1150 q1151 rfl q1152 gcX3_waits (PP.p hk) (GO.deep (c_pWait (d := 0) (kn := kn) hP hk hw hh hZ hB0 (by omega) hkn (by omega)) (by omega)) rfl rfl (fun k48 z48 => ?_)
        obtain ⟨hZ5, hk5⟩ := z48
        refine g_iinc (q := 54) dX0_lasts_51 rfl gs2 rfl ?_
        refine g_goto (t := 18) dX0_lasts_54 (by decide) ?_
        have z := ih (i + 1) (B + 1) _ _ (by omega) (by omega) hh2 (by omega) (by omega) hZ5 hk5
        rw [show lastL w (-1) kn r (f + 1) i hs1 = lastL w (-1) kn r f (i + 1) (mHour w hs1 (-1) kn) from if_pos c38]
        exact z
      · refine g_iload_n (q := 42) dX0_lasts_41 rfl rfl ?_
        exact g_iret dX0_lasts_42 rfl ⟨_, rfl, congrArg vI (if_neg c38).symm, hX.paperx hk⟩
theorem c_lastsX (hX : (XR E x mf ow h w hs si lo bk uW uH uB iL iS tp td fk fp my wd uN)) (hw : WFw w) (hh : HSok B hs) (hZ : HZ w hs) (hB0 : 0 ≤ B) (hB : B ≤ 800000000) (hkn : in32 kn) (h1 : in32 r) :
    CALL E iX0_lasts (d + 1304) 0 0 [.ref x, vI r] h (qP fun o k => o = vI (if 0 ≤ r ∧ r ≤ w 2 - 1 then lastL w (-1) kn r 201 0 hs else -2) ∧ (XR E x mf ow k w hs si lo bk uW uH uB iL iS tp td fk fp my wd uN)) := by
  obtain ⟨x1, x2, ⟨w3, bl, tq, pl, bp, hC, -⟩, ⟨t, s1, -⟩, -⟩ := id hX
  have hP := PP.of hX s1
  show GO E iX0_lasts _ _ _ 0 [some (.ref x), some (vI r), none] [] _ _
  refine g_aload_n (q := 1) dX0_lasts_0 rfl rfl ?_
  refine g_iload_n (q := 2) dX0_lasts_1 rfl rfl ?_
  refine g_cv (I' := iX0_isRow) (mc := 0) (ms := 0) (rc := 0) (rs := 0) (ci := 0) (q := 5) dX0_lasts_2 q983 q985 rfl qs26 gcX0_isRow hC (GO.deep (c_isRowX (d := 0) hX h1 ⟨hw.2.1.1, hw.2.1.2⟩) (by omega)) rfl rfl ?_
  refine g_ifneB (t := 11) (q := 8) dX0_lasts_5 (by decide) rfl (fun c5 => ?_) (fun c5 => ?_)
  · refine g_aload_n (q := 12) dX0_lasts_11 rfl rfl ?_
    refine g_cvP (I' := iX0_onPaper) (mc := 0) (ms := 0) (rc := 0) (rs := 0) (ci := 0) (q := 15) dX0_lasts_12 q1204 q1206 rfl qs34 gcX0_onPaper hC (GO.deep (c_onPaper (d := 0) hX s1) (by omega)) rfl rfl (fun v12 k12 z12 => ?_)
    obtain ⟨rfl, hk1⟩ := z12
    refine g_pop (q := 16) dX0_lasts_15 rfl ?_
    refine g_iconst (q := 17) dX0_lasts_16 rfl ?_
    refine g_istore_n (q := 18) dX0_lasts_17 gs2 rfl ?_
    rw [if_pos c5]
    exact l_lastsX (d := d) hX hP hw hkn (by omega) (by omega) 201 0 B hs _ (by omega) (by omega) hh hB0 (by omega) hZ hk1
  · refine g_bipush (q := 10) dX0_lasts_8 rfl ?_
    exact g_iret dX0_lasts_10 rfl ⟨_, rfl, congrArg vI (if_neg c5).symm, hX⟩
theorem mHours_i {w hs : Int → Int} {kl kn i : Int} (hi : 0 ≤ i) : mHour w (mHours w kl kn i.toNat hs) kl kn = mHours w kl kn (i + 1).toNat hs := by
  rw [← mHours_s, show (i + 1).toNat = i.toNat + 1 by omega]
theorem l_goneX (hw : WFw w) (hh : HSok B hs) (hZ : HZ w hs) (hB0 : 0 ≤ B) (hB : B ≤ 800000000) (hkn : in32 kn) (hr : 0 ≤ r) (hr1 : r < w 2) : ∀ (f : Nat) (i : Int) (k : gH), 0 ≤ i → i + f = 61 → (XR E x mf ow k w hs si lo bk uW uH uB iL iS tp td fk fp my wd uN) →
    GO E iX0_gone (d + 1305) 0 0 13 [some (.ref x), some (vI r), some (vI i)] [] k (qP fun o k => o = vI (goneL w (-1) kn r f i (mHours w (-1) kn i.toNat hs)) ∧ (XR E x mf ow k w hs si lo bk uW uH uB iL iS tp td fk fp my wd uN)) := by
  intro f
  induction f with
  | zero =>
    intro i k h0 h1 hX
    refine g_iload_n (q := 14) dX0_gone_13 rfl rfl ?_
    refine g_bipush (q := 16) dX0_gone_14 rfl ?_
    refine g_icmp_gt (t := 48) (q := 19) dX0_gone_16 (by decide) rfl (by first | assumption | exact in32_gB | exact in32_gCmp | (unfold in32; omega)) (by first | assumption | exact in32_gB | exact in32_gCmp | (unfold in32; omega)) (fun c16 => ?_) (fun c16 => ?_)
    · refine g_iconst (q := 49) dX0_gone_48 rfl ?_
      exact g_iret dX0_gone_49 rfl ⟨_, rfl, rfl, hX⟩
    · exact absurd c16 (by omega)
  | succ f ih =>
    intro i k h0 h1 hX
    obtain ⟨x1, x2, ⟨w3, bl, tq, pl, bp, hC, -⟩, -⟩ := id hX
    have hh2 := HSok.hours (kl := -1) (kn := kn) hw i.toNat B hs hh hB0
    have ok1 := (mLearns_ok (kl := -1) (kn := kn) hw (r := r) (by omega) (by omega) hh2).2
    have ok2 := (mLearns_ok (kl := -1) (kn := kn) hw (r := r) (by omega) (by omega) (hh2.zero (by omega))).2
    have o1 := orM_41 ok1
    have o2 := orM_41 ok2
    refine g_iload_n (q := 14) dX0_gone_13 rfl rfl ?_
    refine g_bipush (q := 16) dX0_gone_14 rfl ?_
    refine g_icmp_gt (t := 48) (q := 19) dX0_gone_16 (by decide) rfl (by first | assumption | exact in32_gB | exact in32_gCmp | (unfold in32; omega)) (by first | assumption | exact in32_gB | exact in32_gCmp | (unfold in32; omega)) (fun c16 => ?_) (fun c16 => ?_)
    · exact absurd c16 (by omega)
    · refine g_aload_n (q := 20) dX0_gone_19 rfl rfl ?_
      refine g_iload_n (q := 21) dX0_gone_20 rfl rfl ?_
      refine g_iload_n (q := 22) dX0_gone_21 rfl rfl ?_
      refine g_cvP (I' := iX0_needsOf) (mc := 0) (ms := 0) (rc := 0) (rs := 0) (ci := 0) (q := 25) dX0_gone_22 q1200 q1202 rfl qs33 gcX0_needsOf hC (c_needsOfX (kn := kn) hX hw hh hZ hB0 hB hkn hr hr1 (by omega)) rfl rfl (fun v22 k22 z22 => ?_)
      obtain ⟨rfl, hX22⟩ := z22
      obtain ⟨-, -, ⟨-, bl4, -, -, -, hC4, -⟩, -⟩ := id hX22
      refine g_cs (I' := iX0_counted) (mc := 0) (ms := 0) (rc := 0) (rs := 0) (q := 28) dX0_gone_25 q1239 q1240 gcX0_counted (GO.deep (c_counted (d := 0) (by unfold in32; omega)) (by omega)) rfl rfl ?_
      refine g_aload_n (q := 29) dX0_gone_28 rfl rfl ?_
      refine g_iload_n (q := 30) dX0_gone_29 rfl rfl ?_
      refine g_iload_n (q := 31) dX0_gone_30 rfl rfl ?_
      refine g_cvP (I' := iX0_freshOf) (mc := 0) (ms := 0) (rc := 0) (rs := 0) (ci := 0) (q := 34) dX0_gone_31 q1217 q1219 rfl qs35 gcX0_freshOf hC4 (c_freshOfX (kn := kn) hX22 hw hh hB0 hB hkn hr hr1 (by omega)) rfl rfl (fun v31 k31 z31 => ?_)
      obtain ⟨rfl, hX31⟩ := z31
      refine g_cs (I' := iX0_counted) (mc := 0) (ms := 0) (rc := 0) (rs := 0) (q := 37) dX0_gone_34 q1239 q1240 gcX0_counted (GO.deep (c_counted (d := 0) (by unfold in32; omega)) (by omega)) rfl rfl ?_
      refine g_icmp_lt (t := 42) (q := 40) dX0_gone_37 (by decide) rfl (by first | assumption | exact in32_gB | exact in32_gCmp | (unfold in32; omega)) (by first | assumption | exact in32_gB | exact in32_gCmp | (unfold in32; omega)) (fun c37 => ?_) (fun c37 => ?_)
      · refine g_iinc (q := 45) dX0_gone_42 rfl gs2 rfl ?_
        refine g_goto (t := 13) dX0_gone_45 (by decide) ?_
        have z := ih (i + 1) _ (by omega) (by omega) hX31
        rw [show goneL w (-1) kn r (f + 1) i (mHours w (-1) kn i.toNat hs) = goneL w (-1) kn r f (i + 1) (mHour w (mHours w (-1) kn i.toNat hs) (-1) kn) from if_pos (by omega), mHours_i h0]
        exact z
      · refine g_iload_n (q := 41) dX0_gone_40 rfl rfl ?_
        exact g_iret dX0_gone_41 rfl ⟨_, rfl, congrArg vI (if_neg (by omega)).symm, hX31⟩
theorem c_goneX (hX : (XR E x mf ow h w hs si lo bk uW uH uB iL iS tp td fk fp my wd uN)) (hw : WFw w) (hh : HSok B hs) (hZ : HZ w hs) (hB0 : 0 ≤ B) (hB : B ≤ 800000000) (hkn : in32 kn) (h1 : in32 r) :
    CALL E iX0_gone (d + 1305) 0 0 [.ref x, vI r] h (qP fun o k => o = vI (if 0 ≤ r ∧ r ≤ w 2 - 1 then goneL w (-1) kn r 61 0 hs else -2) ∧ (XR E x mf ow k w hs si lo bk uW uH uB iL iS tp td fk fp my wd uN)) := by
  obtain ⟨x1, x2, ⟨w3, bl, tq, pl, bp, hC, -⟩, -⟩ := id hX
  show GO E iX0_gone _ _ _ 0 [some (.ref x), some (vI r), none] [] _ _
  refine g_aload_n (q := 1) dX0_gone_0 rfl rfl ?_
  refine g_iload_n (q := 2) dX0_gone_1 rfl rfl ?_
  refine g_cv (I' := iX0_isRow) (mc := 0) (ms := 0) (rc := 0) (rs := 0) (ci := 0) (q := 5) dX0_gone_2 q983 q985 rfl qs26 gcX0_isRow hC (GO.deep (c_isRowX (d := 0) hX h1 ⟨hw.2.1.1, hw.2.1.2⟩) (by omega)) rfl rfl ?_
  refine g_ifneB (t := 11) (q := 8) dX0_gone_5 (by decide) rfl (fun c5 => ?_) (fun c5 => ?_)
  · refine g_iconst (q := 12) dX0_gone_11 rfl ?_
    refine g_istore_n (q := 13) dX0_gone_12 gs2 rfl ?_
    rw [if_pos c5]
    exact l_goneX (d := d) hw hh hZ hB0 hB hkn (by omega) (by omega) 61 0 _ (by omega) (by omega) hX
  · refine g_bipush (q := 10) dX0_gone_8 rfl ?_
    exact g_iret dX0_gone_10 rfl ⟨_, rfl, congrArg vI (if_neg c5).symm, hX⟩
theorem l_whenX (hw : WFw w) (hh : HSok B hs) (hZ : HZ w hs) (hB0 : 0 ≤ B) (hB : B ≤ 800000000) (hkn : in32 kn) (hr : 0 ≤ r) (hr1 : r < w 2) : ∀ (f : Nat) (i best least : Int) (k : gH) (x5 : Option Value), 0 ≤ i → i + f = 24 → (XR E x mf ow k w hs si lo bk uW uH uB iL iS tp td fk fp my wd uN) → in32 best → (0 ≤ least ∧ least ≤ 41) →
    GO E iX0_when (d + 1305) 0 0 19 [some (.ref x), some (vI r), some (vI best), some (vI least), some (vI i), x5] [] k (qP fun o k => o = vI (whenL w (-1) kn r f i best least (mHours w (-1) kn i.toNat hs)) ∧ (XR E x mf ow k w hs si lo bk uW uH uB iL iS tp td fk fp my wd uN)) := by
  intro f
  induction f with
  | zero =>
    intro i best least k x5 h0 h1 hX hb hl
    refine g_iload (q := 21) dX0_when_19 rfl rfl ?_
    refine g_bipush (q := 23) dX0_when_21 rfl ?_
    refine g_icmp_ge (t := 59) (q := 26) dX0_when_23 (by decide) rfl (by first | assumption | exact in32_gB | exact in32_gCmp | (unfold in32; omega)) (by first | assumption | exact in32_gB | exact in32_gCmp | (unfold in32; omega)) (fun c23 => ?_) (fun c23 => ?_)
    · refine g_iload_n (q := 60) dX0_when_59 rfl rfl ?_
      exact g_iret dX0_when_60 rfl ⟨_, rfl, rfl, hX⟩
    · exact absurd c23 (by omega)
  | succ f ih =>
    intro i best least k x5 h0 h1 hX hb hl
    obtain ⟨x1, x2, ⟨w3, bl, tq, pl, bp, hC, -⟩, -⟩ := id hX
    have hh2 := HSok.hours (kl := -1) (kn := kn) hw i.toNat B hs hh hB0
    have ok1 := (mLearns_ok (kl := -1) (kn := kn) hw (r := r) (by omega) (by omega) hh2).2
    have o1 := orM_41 ok1
    refine g_iload (q := 21) dX0_when_19 rfl rfl ?_
    refine g_bipush (q := 23) dX0_when_21 rfl ?_
    refine g_icmp_ge (t := 59) (q := 26) dX0_when_23 (by decide) rfl (by first | assumption | exact in32_gB | exact in32_gCmp | (unfold in32; omega)) (by first | assumption | exact in32_gB | exact in32_gCmp | (unfold in32; omega)) (fun c23 => ?_) (fun c23 => ?_)
    · exact absurd c23 (by omega)
    · refine g_aload_n (q := 27) dX0_when_26 rfl rfl ?_
      refine g_iload_n (q := 28) dX0_when_27 rfl rfl ?_
      refine g_iload (q := 30) dX0_when_28 rfl rfl ?_
      refine g_cvP (I' := iX0_needsOf) (mc := 0) (ms := 0) (rc := 0) (rs := 0) (ci := 0) (q := 33) dX0_when_30 q1200 q1202 rfl qs33 gcX0_needsOf hC (c_needsOfX (kn := kn) hX hw hh hZ hB0 hB hkn hr hr1 (by omega)) rfl rfl (fun v30 k30 z30 => ?_)
      obtain ⟨rfl, hX22⟩ := z30
      refine g_cs (I' := iX0_counted) (mc := 0) (ms := 0) (rc := 0) (rs := 0) (q := 36) dX0_when_33 q1239 q1240 gcX0_counted (GO.deep (c_counted (d := 0) (by unfold in32; omega)) (by omega)) rfl rfl ?_
      refine g_istore (q := 38) dX0_when_36 gs5 rfl ?_
      refine g_iload (q := 40) dX0_when_38 rfl rfl ?_
      refine g_iload_n (q := 41) dX0_when_40 rfl rfl ?_
      refine g_icmp_lt (t := 47) (q := 44) dX0_when_41 (by decide) rfl (by first | assumption | exact in32_gB | exact in32_gCmp | (unfold in32; omega)) (by first | assumption | exact in32_gB | exact in32_gCmp | (unfold in32; omega)) (fun c41 => ?_) (fun c41 => ?_)
      · refine g_iload (q := 49) dX0_when_47 rfl rfl ?_
        refine g_istore_n (q := 50) dX0_when_49 gs3 rfl ?_
        refine g_iload (q := 52) dX0_when_50 rfl rfl ?_
        refine g_istore_n (q := 53) dX0_when_52 gs2 rfl ?_
        refine g_iinc (q := 56) dX0_when_53 rfl gs4 rfl ?_
        refine g_goto (t := 19) dX0_when_56 (by decide) ?_
        first
        | (rw [show whenL w (-1) kn r (f + 1) i best least (mHours w (-1) kn i.toNat hs) = whenL w (-1) kn r f (i + 1) best least (mHour w (mHours w (-1) kn i.toNat hs) (-1) kn) from if_pos (by omega), mHours_i h0]; exact ih (i + 1) best least _ _ (by omega) (by omega) hX22 hb hl)
        | (rw [show whenL w (-1) kn r (f + 1) i best least (mHours w (-1) kn i.toNat hs) = whenL w (-1) kn r f (i + 1) i (orM (mLearns w (mHours w (-1) kn i.toNat hs) (-1) kn r).1) (mHour w (mHours w (-1) kn i.toNat hs) (-1) kn) from if_neg (by omega), mHours_i h0]; exact ih (i + 1) i (orM (mLearns w (mHours w (-1) kn i.toNat hs) (-1) kn r).1) _ _ (by omega) (by omega) hX22 (by unfold in32; omega) (by omega))
      · refine g_goto (t := 53) dX0_when_44 (by decide) ?_
        refine g_iinc (q := 56) dX0_when_53 rfl gs4 rfl ?_
        refine g_goto (t := 19) dX0_when_56 (by decide) ?_
        first
        | (rw [show whenL w (-1) kn r (f + 1) i best least (mHours w (-1) kn i.toNat hs) = whenL w (-1) kn r f (i + 1) best least (mHour w (mHours w (-1) kn i.toNat hs) (-1) kn) from if_pos (by omega), mHours_i h0]; exact ih (i + 1) best least _ _ (by omega) (by omega) hX22 hb hl)
        | (rw [show whenL w (-1) kn r (f + 1) i best least (mHours w (-1) kn i.toNat hs) = whenL w (-1) kn r f (i + 1) i (orM (mLearns w (mHours w (-1) kn i.toNat hs) (-1) kn r).1) (mHour w (mHours w (-1) kn i.toNat hs) (-1) kn) from if_neg (by omega), mHours_i h0]; exact ih (i + 1) i (orM (mLearns w (mHours w (-1) kn i.toNat hs) (-1) kn r).1) _ _ (by omega) (by omega) hX22 (by unfold in32; omega) (by omega))
theorem c_whenX (hX : (XR E x mf ow h w hs si lo bk uW uH uB iL iS tp td fk fp my wd uN)) (hw : WFw w) (hh : HSok B hs) (hZ : HZ w hs) (hB0 : 0 ≤ B) (hB : B ≤ 800000000) (hkn : in32 kn) (h1 : in32 r) :
    CALL E iX0_when (d + 1305) 0 0 [.ref x, vI r] h (qP fun o k => o = vI (if 0 ≤ r ∧ r ≤ w 2 - 1 then whenL w (-1) kn r 24 0 (-1) 41 hs else -2) ∧ (XR E x mf ow k w hs si lo bk uW uH uB iL iS tp td fk fp my wd uN)) := by
  obtain ⟨x1, x2, ⟨w3, bl, tq, pl, bp, hC, -⟩, -⟩ := id hX
  show GO E iX0_when _ _ _ 0 [some (.ref x), some (vI r), none, none, none, none] [] _ _
  refine g_aload_n (q := 1) dX0_when_0 rfl rfl ?_
  refine g_iload_n (q := 2) dX0_when_1 rfl rfl ?_
  refine g_cv (I' := iX0_isRow) (mc := 0) (ms := 0) (rc := 0) (rs := 0) (ci := 0) (q := 5) dX0_when_2 q983 q985 rfl qs26 gcX0_isRow hC (GO.deep (c_isRowX (d := 0) hX h1 ⟨hw.2.1.1, hw.2.1.2⟩) (by omega)) rfl rfl ?_
  refine g_ifneB (t := 11) (q := 8) dX0_when_5 (by decide) rfl (fun c5 => ?_) (fun c5 => ?_)
  · refine g_iconst (q := 12) dX0_when_11 rfl ?_
    refine g_istore_n (q := 13) dX0_when_12 gs2 rfl ?_
    refine g_bipush (q := 15) dX0_when_13 rfl ?_
    refine g_istore_n (q := 16) dX0_when_15 gs3 rfl ?_
    refine g_iconst (q := 17) dX0_when_16 rfl ?_
    refine g_istore (q := 19) dX0_when_17 gs4 rfl ?_
    rw [if_pos c5]
    exact l_whenX (d := d) hw hh hZ hB0 hB hkn (by omega) (by omega) 24 0 (-1) 41 _ _ (by omega) (by omega) hX (by unfold in32; omega) (by omega)
  · refine g_bipush (q := 10) dX0_when_8 rfl ?_
    exact g_iret dX0_when_10 rfl ⟨_, rfl, congrArg vI (if_neg c5).symm, hX⟩
end
