/-! THE COMPONENT: more of what is asked -/
set_option maxRecDepth 100000
section
variable {E : gE} {d rc rs x : Nat} {mf : Nat → va_E} {ow : OW} {h : gH} {w hs bk tp iL iS my wd : Int → Int} {uW uH uB uN : Int → Int → Int} {si lo td fk fp : Int}
variable {r r2 v n B kn wo i s l c b : Int} {ra t : Nat} {hs1 : Int → Int} {k : gH}
theorem c_betweenX (hX : (XR E x mf ow h w hs si lo bk uW uH uB iL iS tp td fk fp my wd uN)) (hw : WFw w) (hh : HSok B hs) (hZ : HZ w hs) (hB0 : 0 ≤ B) (hB : B ≤ 800000000) (hkn : in32 kn) (h1 : in32 r) (h2 : in32 r2) (h3 : in32 v) :
    CALL E iX0_between (d + 1305) 0 0 [.ref x, vI r, vI r2, vI v] h (qP fun o k => o = vI (if ((0 ≤ r ∧ r ≤ w 2 - 1) ∧ (0 ≤ r2 ∧ r2 ≤ w 2 - 1)) ∧ ¬ r = r2 ∧ (1 ≤ v ∧ v ≤ 200) then mBetween w hs (-1) kn r r2 v else -2000000000) ∧ (XR E x mf ow k w hs si lo bk uW uH uB iL iS tp td fk fp my wd uN)) := by
  obtain ⟨x1, x2, ⟨w3, bl, tq, pl, bp, hC, -⟩, -⟩ := id hX
  by_cases cc : ((0 ≤ r ∧ r ≤ w 2 - 1) ∧ (0 ≤ r2 ∧ r2 ≤ w 2 - 1)) ∧ ¬ r = r2 ∧ (1 ≤ v ∧ v ≤ 200)
  · rw [if_pos cc]
    have hr : 0 ≤ r ∧ r < w 2 := by omega
    have hr2 : 0 ≤ r2 ∧ r2 < w 2 := by omega
    have k1 := mLearns_ok (kl := -1) (kn := kn) hw hr.1 hr.2 (HSok.hours (kl := -1) (kn := kn) hw v.toNat B hs hh hB0)
    have k2 := mLearns_ok (kl := -1) (kn := kn) hw hr2.1 hr2.2 hh
    have k3 := mLearns_ok (kl := -1) (kn := kn) hw hr.1 hr.2 (HSok.hours (kl := -1) (kn := kn) hw v.toNat (B + 40) _ k2.1 (by omega))
    have ok1 := k1.2
    have ok2 := k2.2
    have ok3 := k3.2
    show GO E iX0_between _ _ _ 0 [some (.ref x), some (vI r), some (vI r2), some (vI v), none, none] [] _ _
    refine g_aload_n (q := 1) dX0_between_0 rfl rfl ?_
    refine g_iload_n (q := 2) dX0_between_1 rfl rfl ?_
    refine g_cv (I' := iX0_isRow) (mc := 0) (ms := 0) (rc := 0) (rs := 0) (ci := 0) (q := 5) dX0_between_2 q983 q985 rfl qs26 gcX0_isRow hC (GO.deep (c_isRowX (d := 0) hX h1 ⟨hw.2.1.1, hw.2.1.2⟩) (by omega)) rfl rfl ?_
    refine g_ifeqB (t := 33) (q := 8) dX0_between_5 (by decide) rfl (fun c5 => ?_) (fun c5 => ?_)
    · exact absurd cc.1.1 c5
    · refine g_aload_n (q := 9) dX0_between_8 rfl rfl ?_
      refine g_iload_n (q := 10) dX0_between_9 rfl rfl ?_
      refine g_cv (I' := iX0_isRow) (mc := 0) (ms := 0) (rc := 0) (rs := 0) (ci := 0) (q := 13) dX0_between_10 q983 q985 rfl qs26 gcX0_isRow hC (GO.deep (c_isRowX (d := 0) hX h2 ⟨hw.2.1.1, hw.2.1.2⟩) (by omega)) rfl rfl ?_
      refine g_ifeqB (t := 33) (q := 16) dX0_between_13 (by decide) rfl (fun c13 => ?_) (fun c13 => ?_)
      · exact absurd cc.1.2 c13
      · refine g_iload_n (q := 17) dX0_between_16 rfl rfl ?_
        refine g_iload_n (q := 18) dX0_between_17 rfl rfl ?_
        refine g_icmp_eq (t := 33) (q := 21) dX0_between_18 (by decide) rfl (by first | assumption | exact in32_gB | exact in32_gCmp | (unfold in32; omega)) (by first | assumption | exact in32_gB | exact in32_gCmp | (unfold in32; omega)) (fun c18 => ?_) (fun c18 => ?_)
        · exact absurd c18 cc.2.1
        · refine g_iload_n (q := 22) dX0_between_21 rfl rfl ?_
          refine g_i2l (q := 23) dX0_between_22 (by first | assumption | exact in32_gB | exact in32_gCmp | (unfold in32; omega)) rfl ?_
          refine g_lconst1 (q := 24) dX0_between_23 rfl ?_
          refine g_ldc2 (a := 200) (q := 27) dX0_between_24 q1149 (by decide) rfl ?_
          refine g_cs (I' := iX0_in) (mc := 0) (ms := 0) (rc := 0) (rs := 0) (q := 30) dX0_between_27 q130 q131 gcX0_in (c_inX (by unfold in64; omega) (by unfold in64; omega) (by unfold in64; omega)) rfl rfl ?_
          refine g_ifneB (t := 36) (q := 33) dX0_between_30 (by decide) rfl (fun c30 => ?_) (fun c30 => ?_)
          · refine g_aload_n (q := 37) dX0_between_36 rfl rfl ?_
            refine g_iload_n (q := 38) dX0_between_37 rfl rfl ?_
            refine g_iload_n (q := 39) dX0_between_38 rfl rfl ?_
            refine g_cvP (I' := iX0_needsOf) (mc := 0) (ms := 0) (rc := 0) (rs := 0) (ci := 0) (q := 42) dX0_between_39 q1200 q1202 rfl qs33 gcX0_needsOf hC (c_needsOfX (kn := kn) hX hw hh hZ hB0 hB hkn hr.1 hr.2 (by omega)) rfl rfl (fun v39 k39 z39 => ?_)
            obtain ⟨rfl, hX39⟩ := z39
            obtain ⟨-, -, ⟨-, bl4, -, -, -, hC4, -⟩, ⟨t, s1, -⟩, -⟩ := id hX39
            have hP := PP.of hX39 s1
            refine g_istore (q := 44) dX0_between_42 gs4 rfl ?_
            refine g_aload_n (q := 45) dX0_between_44 rfl rfl ?_
            refine g_cvP (I' := iX0_onPaper) (mc := 0) (ms := 0) (rc := 0) (rs := 0) (ci := 0) (q := 48) dX0_between_45 q1204 q1206 rfl qs34 gcX0_onPaper hC4 (GO.deep (c_onPaper (d := 0) hX39 s1) (by omega)) rfl rfl (fun v45 k45 z45 => ?_)
            obtain ⟨rfl, hk45⟩ := z45
            obtain ⟨bl5, hC5⟩ := hP.c hk45
            refine g_aload_n (q := 49) dX0_between_48 rfl rfl ?_
            refine g_iload_n (q := 50) dX0_between_49 rfl rfl ?_
            refine g_cvP (I' := iX0_rowAt) (mc := 0) (ms := 0) (rc := 0) (rs := 0) (ci := 0) (q := 53) dX0_between_50 q992 q994 rfl qs28 gcX0_rowAt hC5 (GO.deep (c_pRow (d := 0) hX39 hP hk45 hr2.1 hr2.2) (by omega)) rfl rfl (fun v50 k50 z50 => ?_)
            obtain ⟨ra, rfl, hR, rfl⟩ := z50
            refine g_iconst (q := 54) dX0_between_53 rfl ?_
            refine g_cvP (I' := iX3_learns) (mc := 0) (ms := 0) (rc := 0) (rs := 0) (ci := 4) (q := 57) dX0_between_54 q1136 q1137 rfl q1138 gcX3_learns (PP.p hk45) (GO.deep (c_pLearnN (d := 0) (kn := kn) hP hk45 hw hh hZ (by omega) hkn hr2.1 hr2.2 hR) (by omega)) rfl rfl (fun v54 k54 z54 => ?_)
            obtain ⟨rfl, hZ54, hk54⟩ := z54
            obtain ⟨bl6, hC6⟩ := hP.c hk54
            refine g_iconst (q := 58) dX0_between_57 rfl ?_
            refine g_icmp_ne (t := 64) (q := 61) dX0_between_58 (by decide) rfl (by unfold in32; omega) (by unfold in32; omega) (fun c58 => ?_) (fun c58 => ?_)
            · refine g_aload_n (q := 65) dX0_between_64 rfl rfl ?_
              refine g_get (C := RX0) (T := TX0) (ci := 0) (k := 3) (q := 68) dX0_between_65 q521 rfl in_X0 (by decide) hC6 rfl rfl ?_
              refine g_iload_n (q := 69) dX0_between_68 rfl rfl ?_
              refine g_cvVP (I' := iX3_waits) (mc := 0) (ms := 0) (rc := 0) (rs := 0) (ci := 4) (q := 72) dX0_between_69 q1150 q1151 rfl q1152 gcX3_waits (PP.p hk54) (GO.deep (c_pWait (d := 0) (kn := kn) hP hk54 hw k2.1 hZ54 (by omega) (by omega) hkn (by omega)) (by omega)) rfl rfl (fun k69 z69 => ?_)
              obtain ⟨hZ69, hk69⟩ := z69
              obtain ⟨bl7, hC7⟩ := hP.c hk69
              refine g_aload_n (q := 73) dX0_between_72 rfl rfl ?_
              refine g_get (C := RX0) (T := TX0) (ci := 0) (k := 3) (q := 76) dX0_between_73 q521 rfl in_X0 (by decide) hC7 rfl rfl ?_
              refine g_aload_n (q := 77) dX0_between_76 rfl rfl ?_
              refine g_iload_n (q := 78) dX0_between_77 rfl rfl ?_
              refine g_cvP (I' := iX0_rowAt) (mc := 0) (ms := 0) (rc := 0) (rs := 0) (ci := 0) (q := 81) dX0_between_78 q992 q994 rfl qs28 gcX0_rowAt hC7 (GO.deep (c_pRow (d := 0) hX39 hP hk69 hr.1 hr.2) (by omega)) rfl rfl (fun v78 k78 z78 => ?_)
              obtain ⟨ra2, rfl, hR2, rfl⟩ := z78
              refine g_iconst (q := 82) dX0_between_81 rfl ?_
              refine g_cvP (I' := iX3_learns) (mc := 0) (ms := 0) (rc := 0) (rs := 0) (ci := 4) (q := 85) dX0_between_82 q1136 q1137 rfl q1138 gcX3_learns (PP.p hk69) (GO.deep (c_pLearnN (d := 0) (kn := kn) hP hk69 hw (HSok.hours (kl := -1) (kn := kn) hw v.toNat (B + 40) _ k2.1 (by omega)) hZ69 (by omega) hkn hr.1 hr.2 hR2) (by omega)) rfl rfl (fun v82 k82 z82 => ?_)
              obtain ⟨rfl, hZ82, hk82⟩ := z82
              refine g_istore (q := 87) dX0_between_85 gs5 rfl ?_
              refine g_iload (q := 89) dX0_between_87 rfl rfl ?_
              refine g_iconst (q := 90) dX0_between_89 rfl ?_
              refine g_icmp_eq (t := 99) (q := 93) dX0_between_90 (by decide) rfl (by unfold in32; omega) (by unfold in32; omega) (fun c90 => ?_) (fun c90 => ?_)
              · refine g_ldc (a := -2000000000) (q := 101) dX0_between_99 q1226 (by decide) rfl ?_
                refine g_goto (t := 109) dX0_between_101 (by decide) ?_
                exact g_iret dX0_between_109 rfl ⟨_, rfl, congrArg vI (by unfold mBetween betI; first | rw [if_pos (by omega)] | rw [if_neg (by omega)]), hX39.paperx hk82⟩
              · refine g_iload (q := 95) dX0_between_93 rfl rfl ?_
                refine g_iconst (q := 96) dX0_between_95 rfl ?_
                refine g_icmp_ne (t := 104) (q := 99) dX0_between_96 (by decide) rfl (by unfold in32; omega) (by unfold in32; omega) (fun c96 => ?_) (fun c96 => ?_)
                · refine g_iload (q := 106) dX0_between_104 rfl rfl ?_
                  refine g_iload (q := 108) dX0_between_106 rfl rfl ?_
                  refine g_isub (q := 109) dX0_between_108 rfl ?_
                  exact g_iret dX0_between_109 rfl ⟨_, rfl, congrArg vI (by unfold mBetween betI; first | rw [if_pos (by omega)] | rw [if_neg (by omega)]), hX39.paperx hk82⟩
                · refine g_ldc (a := -2000000000) (q := 101) dX0_between_99 q1226 (by decide) rfl ?_
                  refine g_goto (t := 109) dX0_between_101 (by decide) ?_
                  exact g_iret dX0_between_109 rfl ⟨_, rfl, congrArg vI (by unfold mBetween betI; first | rw [if_pos (by omega)] | rw [if_neg (by omega)]), hX39.paperx hk82⟩
            · refine g_ldc (a := -2000000000) (q := 63) dX0_between_61 q1226 (by decide) rfl ?_
              exact g_iret dX0_between_63 rfl ⟨_, rfl, congrArg vI (by unfold mBetween betI; rw [if_pos (Or.inl (by omega))]), hX39.paperx hk54⟩
          · exact absurd cc.2.2 c30
  · rw [if_neg cc]
    show GO E iX0_between _ _ _ 0 [some (.ref x), some (vI r), some (vI r2), some (vI v), none, none] [] _ _
    refine g_aload_n (q := 1) dX0_between_0 rfl rfl ?_
    refine g_iload_n (q := 2) dX0_between_1 rfl rfl ?_
    refine g_cv (I' := iX0_isRow) (mc := 0) (ms := 0) (rc := 0) (rs := 0) (ci := 0) (q := 5) dX0_between_2 q983 q985 rfl qs26 gcX0_isRow hC (GO.deep (c_isRowX (d := 0) hX h1 ⟨hw.2.1.1, hw.2.1.2⟩) (by omega)) rfl rfl ?_
    refine g_ifeqB (t := 33) (q := 8) dX0_between_5 (by decide) rfl (fun c5 => ?_) (fun c5 => ?_)
    · refine g_ldc (a := -2000000000) (q := 35) dX0_between_33 q1226 (by decide) rfl ?_
      exact g_iret dX0_between_35 rfl ⟨_, rfl, rfl, hX⟩
    · refine g_aload_n (q := 9) dX0_between_8 rfl rfl ?_
      refine g_iload_n (q := 10) dX0_between_9 rfl rfl ?_
      refine g_cv (I' := iX0_isRow) (mc := 0) (ms := 0) (rc := 0) (rs := 0) (ci := 0) (q := 13) dX0_between_10 q983 q985 rfl qs26 gcX0_isRow hC (GO.deep (c_isRowX (d := 0) hX h2 ⟨hw.2.1.1, hw.2.1.2⟩) (by omega)) rfl rfl ?_
      refine g_ifeqB (t := 33) (q := 16) dX0_between_13 (by decide) rfl (fun c13 => ?_) (fun c13 => ?_)
      · refine g_ldc (a := -2000000000) (q := 35) dX0_between_33 q1226 (by decide) rfl ?_
        exact g_iret dX0_between_35 rfl ⟨_, rfl, rfl, hX⟩
      · refine g_iload_n (q := 17) dX0_between_16 rfl rfl ?_
        refine g_iload_n (q := 18) dX0_between_17 rfl rfl ?_
        refine g_icmp_eq (t := 33) (q := 21) dX0_between_18 (by decide) rfl (by first | assumption | exact in32_gB | exact in32_gCmp | (unfold in32; omega)) (by first | assumption | exact in32_gB | exact in32_gCmp | (unfold in32; omega)) (fun c18 => ?_) (fun c18 => ?_)
        · refine g_ldc (a := -2000000000) (q := 35) dX0_between_33 q1226 (by decide) rfl ?_
          exact g_iret dX0_between_35 rfl ⟨_, rfl, rfl, hX⟩
        · refine g_iload_n (q := 22) dX0_between_21 rfl rfl ?_
          refine g_i2l (q := 23) dX0_between_22 (by first | assumption | exact in32_gB | exact in32_gCmp | (unfold in32; omega)) rfl ?_
          refine g_lconst1 (q := 24) dX0_between_23 rfl ?_
          refine g_ldc2 (a := 200) (q := 27) dX0_between_24 q1149 (by decide) rfl ?_
          refine g_cs (I' := iX0_in) (mc := 0) (ms := 0) (rc := 0) (rs := 0) (q := 30) dX0_between_27 q130 q131 gcX0_in (c_inX (by have := h3.1; have := h3.2; unfold in64; omega) (by unfold in64; omega) (by unfold in64; omega)) rfl rfl ?_
          refine g_ifneB (t := 36) (q := 33) dX0_between_30 (by decide) rfl (fun c30 => ?_) (fun c30 => ?_)
          · exact absurd ⟨⟨c5, c13⟩, c18, c30⟩ cc
          · refine g_ldc (a := -2000000000) (q := 35) dX0_between_33 q1226 (by decide) rfl ?_
            exact g_iret dX0_between_35 rfl ⟨_, rfl, rfl, hX⟩
theorem c_eveningX (hX : (XR E x mf ow h w hs si lo bk uW uH uB iL iS tp td fk fp my wd uN)) (hw : WFw w) (hh : HSok B hs) (hZ : HZ w hs) (hB0 : 0 ≤ B) (hB : B ≤ 800000000) (hkn : in32 kn) (h1 : in32 r) (h2 : in32 l) (h3 : in32 v) :
    CALL E iX0_evening (d + 1305) 0 0 [.ref x, vI r, vI l, vI v] h (qP fun o k => o = vI (if (0 ≤ r ∧ r ≤ w 2 - 1) ∧ (0 ≤ l ∧ l ≤ 23) ∧ (0 ≤ v ∧ v ≤ 200) then mEvening w hs (-1) kn r l v else -2000000000) ∧ (XR E x mf ow k w hs si lo bk uW uH uB iL iS tp td fk fp my wd uN)) := by
  obtain ⟨x1, x2, ⟨w3, bl, tq, pl, bp, hC, -⟩, ⟨t, s1, -⟩, -⟩ := id hX
  have hP := PP.of hX s1
  by_cases cc : (0 ≤ r ∧ r ≤ w 2 - 1) ∧ (0 ≤ l ∧ l ≤ 23) ∧ (0 ≤ v ∧ v ≤ 200)
  · rw [if_pos cc]
    have hr : 0 ≤ r ∧ r < w 2 := by omega
    have q1 := HSok.hours (kl := -1) (kn := kn) hw l.toNat B hs hh hB0
    have k1 := mLearns_ok (kl := -1) (kn := kn) hw hr.1 hr.2 hh
    have q2 := HSok.hours (kl := -1) (kn := kn) hw (l + v).toNat (B + 40) _ k1.1 (by omega)
    have k2 := mLearns_ok (kl := -1) (kn := kn) hw hr.1 hr.2 q2
    have k3 := mLearns_ok (kl := -1) (kn := kn) hw hr.1 hr.2 q1
    have q3 := HSok.hours (kl := -1) (kn := kn) hw v.toNat (B + l.toNat + 40) _ k3.1 (by omega)
    have k4 := mLearns_ok (kl := -1) (kn := kn) hw hr.1 hr.2 q3
    have ok1 := k1.2
    have ok2 := k2.2
    have ok3 := k3.2
    have ok4 := k4.2
    show GO E iX0_evening _ _ _ 0 [some (.ref x), some (vI r), some (vI l), some (vI v), none, none] [] _ _
    refine g_aload_n (q := 1) dX0_evening_0 rfl rfl ?_
    refine g_iload_n (q := 2) dX0_evening_1 rfl rfl ?_
    refine g_cv (I' := iX0_isRow) (mc := 0) (ms := 0) (rc := 0) (rs := 0) (ci := 0) (q := 5) dX0_evening_2 q983 q985 rfl qs26 gcX0_isRow hC (GO.deep (c_isRowX (d := 0) hX h1 ⟨hw.2.1.1, hw.2.1.2⟩) (by omega)) rfl rfl ?_
    refine g_ifeqB (t := 27) (q := 8) dX0_evening_5 (by decide) rfl (fun c5 => ?_) (fun c5 => ?_)
    · exact absurd cc.1 c5
    · refine g_iload_n (q := 9) dX0_evening_8 rfl rfl ?_
      refine g_i2l (q := 10) dX0_evening_9 (by first | assumption | exact in32_gB | exact in32_gCmp | (unfold in32; omega)) rfl ?_
      refine g_lconst0 (q := 11) dX0_evening_10 rfl ?_
      refine g_ldc2 (a := 23) (q := 14) dX0_evening_11 q1254 (by decide) rfl ?_
      refine g_cs (I' := iX0_in) (mc := 0) (ms := 0) (rc := 0) (rs := 0) (q := 17) dX0_evening_14 q130 q131 gcX0_in (c_inX (by unfold in64; omega) (by unfold in64; omega) (by unfold in64; omega)) rfl rfl ?_
      refine g_ifeqB (t := 27) (q := 20) dX0_evening_17 (by decide) rfl (fun c17 => ?_) (fun c17 => ?_)
      · exact absurd cc.2.1 c17
      · refine g_iload_n (q := 21) dX0_evening_20 rfl rfl ?_
        refine g_cs (I' := iX0_areHours) (mc := 0) (ms := 0) (rc := 0) (rs := 0) (q := 24) dX0_evening_21 q1146 q1147 gcX0_areHours (GO.deep (c_areHours (d := 0) h3) (by omega)) rfl rfl ?_
        refine g_ifneB (t := 30) (q := 27) dX0_evening_24 (by decide) rfl (fun c24 => ?_) (fun c24 => ?_)
        · refine g_aload_n (q := 31) dX0_evening_30 rfl rfl ?_
          refine g_cvP (I' := iX0_onPaper) (mc := 0) (ms := 0) (rc := 0) (rs := 0) (ci := 0) (q := 34) dX0_evening_31 q1204 q1206 rfl qs34 gcX0_onPaper hC (GO.deep (c_onPaper (d := 0) hX s1) (by omega)) rfl rfl (fun v31 k31 z31 => ?_)
          obtain ⟨rfl, hk31⟩ := z31
          obtain ⟨bl5, hC5⟩ := hP.c hk31
          refine g_aload_n (q := 35) dX0_evening_34 rfl rfl ?_
          refine g_iload_n (q := 36) dX0_evening_35 rfl rfl ?_
          refine g_cvP (I' := iX0_rowAt) (mc := 0) (ms := 0) (rc := 0) (rs := 0) (ci := 0) (q := 39) dX0_evening_36 q992 q994 rfl qs28 gcX0_rowAt hC5 (GO.deep (c_pRow (d := 0) hX hP hk31 hr.1 hr.2) (by omega)) rfl rfl (fun v36 k36 z36 => ?_)
          obtain ⟨ra, rfl, hR, rfl⟩ := z36
          refine g_iconst (q := 40) dX0_evening_39 rfl ?_
          refine g_cvP (I' := iX3_learns) (mc := 0) (ms := 0) (rc := 0) (rs := 0) (ci := 4) (q := 43) dX0_evening_40 q1136 q1137 rfl q1138 gcX3_learns (PP.p hk31) (GO.deep (c_pLearnN (d := 0) (kn := kn) hP hk31 hw hh hZ (by omega) hkn hr.1 hr.2 hR) (by omega)) rfl rfl (fun v40 k40 z40 => ?_)
          obtain ⟨rfl, hZ40, hk40⟩ := z40
          obtain ⟨bl6, hC6⟩ := hP.c hk40
          refine g_iconst (q := 44) dX0_evening_43 rfl ?_
          refine g_icmp_ne (t := 50) (q := 47) dX0_evening_44 (by decide) rfl (by unfold in32; omega) (by unfold in32; omega) (fun c44 => ?_) (fun c44 => ?_)
          · refine g_aload_n (q := 51) dX0_evening_50 rfl rfl ?_
            refine g_get (C := RX0) (T := TX0) (ci := 0) (k := 3) (q := 54) dX0_evening_51 q521 rfl in_X0 (by decide) hC6 rfl rfl ?_
            refine g_iload_n (q := 55) dX0_evening_54 rfl rfl ?_
            refine g_iload_n (q := 56) dX0_evening_55 rfl rfl ?_
            refine g_iadd (q := 57) dX0_evening_56 rfl ?_
            refine g_cvVP (I' := iX3_waits) (mc := 0) (ms := 0) (rc := 0) (rs := 0) (ci := 4) (q := 60) dX0_evening_57 q1150 q1151 rfl q1152 gcX3_waits (PP.p hk40) (GO.deep (c_pWait (d := 0) (kn := kn) hP hk40 hw k1.1 hZ40 (by omega) (by omega) hkn (by omega)) (by omega)) rfl rfl (fun k57 z57 => ?_)
            obtain ⟨hZ57, hk57⟩ := z57
            obtain ⟨bl7, hC7⟩ := hP.c hk57
            refine g_aload_n (q := 61) dX0_evening_60 rfl rfl ?_
            refine g_get (C := RX0) (T := TX0) (ci := 0) (k := 3) (q := 64) dX0_evening_61 q521 rfl in_X0 (by decide) hC7 rfl rfl ?_
            refine g_aload_n (q := 65) dX0_evening_64 rfl rfl ?_
            refine g_iload_n (q := 66) dX0_evening_65 rfl rfl ?_
            refine g_cvP (I' := iX0_rowAt) (mc := 0) (ms := 0) (rc := 0) (rs := 0) (ci := 0) (q := 69) dX0_evening_66 q992 q994 rfl qs28 gcX0_rowAt hC7 (GO.deep (c_pRow (d := 0) hX hP hk57 hr.1 hr.2) (by omega)) rfl rfl (fun v66 k66 z66 => ?_)
            obtain ⟨ra2, rfl, hR2, rfl⟩ := z66
            refine g_iconst (q := 70) dX0_evening_69 rfl ?_
            refine g_cvP (I' := iX3_learns) (mc := 0) (ms := 0) (rc := 0) (rs := 0) (ci := 4) (q := 73) dX0_evening_70 q1136 q1137 rfl q1138 gcX3_learns (PP.p hk57) (GO.deep (c_pLearnN (d := 0) (kn := kn) hP hk57 hw q2 hZ57 (by omega) hkn hr.1 hr.2 hR2) (by omega)) rfl rfl (fun v70 k70 z70 => ?_)
            obtain ⟨rfl, hZ70, hk70⟩ := z70
            obtain ⟨bl8, hC8⟩ := hP.c hk70
            have hX70 := hX.paperx hk70
            obtain ⟨-, -, -, ⟨t2, s2, -⟩, -⟩ := id hX70
            have hP2 := PP.of hX70 s2
            refine g_istore (q := 75) dX0_evening_73 gs4 rfl ?_
            refine g_aload_n (q := 76) dX0_evening_75 rfl rfl ?_
            refine g_cvP (I' := iX0_onPaper) (mc := 0) (ms := 0) (rc := 0) (rs := 0) (ci := 0) (q := 79) dX0_evening_76 q1204 q1206 rfl qs34 gcX0_onPaper hC8 (GO.deep (c_onPaper (d := 0) hX70 s2) (by omega)) rfl rfl (fun v76 k76 z76 => ?_)
            obtain ⟨rfl, hk76⟩ := z76
            refine g_iload_n (q := 80) dX0_evening_79 rfl rfl ?_
            refine g_cvVP (I' := iX3_waits) (mc := 0) (ms := 0) (rc := 0) (rs := 0) (ci := 4) (q := 83) dX0_evening_80 q1150 q1151 rfl q1152 gcX3_waits (PP.p hk76) (GO.deep (c_pWait (d := 0) (kn := kn) hP2 hk76 hw hh hZ (by omega) (by omega) hkn (by omega)) (by omega)) rfl rfl (fun k80 z80 => ?_)
            obtain ⟨hZ80, hk80⟩ := z80
            obtain ⟨bl9, hC9⟩ := hP2.c hk80
            refine g_aload_n (q := 84) dX0_evening_83 rfl rfl ?_
            refine g_get (C := RX0) (T := TX0) (ci := 0) (k := 3) (q := 87) dX0_evening_84 q521 rfl in_X0 (by decide) hC9 rfl rfl ?_
            refine g_aload_n (q := 88) dX0_evening_87 rfl rfl ?_
            refine g_iload_n (q := 89) dX0_evening_88 rfl rfl ?_
            refine g_cvP (I' := iX0_rowAt) (mc := 0) (ms := 0) (rc := 0) (rs := 0) (ci := 0) (q := 92) dX0_evening_89 q992 q994 rfl qs28 gcX0_rowAt hC9 (GO.deep (c_pRow (d := 0) hX70 hP2 hk80 hr.1 hr.2) (by omega)) rfl rfl (fun v89 k89 z89 => ?_)
            obtain ⟨ra3, rfl, hR3, rfl⟩ := z89
            refine g_iconst (q := 93) dX0_evening_92 rfl ?_
            refine g_cvP (I' := iX3_learns) (mc := 0) (ms := 0) (rc := 0) (rs := 0) (ci := 4) (q := 96) dX0_evening_93 q1136 q1137 rfl q1138 gcX3_learns (PP.p hk80) (GO.deep (c_pLearnN (d := 0) (kn := kn) hP2 hk80 hw q1 hZ80 (by omega) hkn hr.1 hr.2 hR3) (by omega)) rfl rfl (fun v93 k93 z93 => ?_)
            obtain ⟨rfl, hZ93, hk93⟩ := z93
            obtain ⟨bl10, hC10⟩ := hP2.c hk93
            refine g_iconst (q := 97) dX0_evening_96 rfl ?_
            refine g_icmp_ne (t := 103) (q := 100) dX0_evening_97 (by decide) rfl (by unfold in32; omega) (by unfold in32; omega) (fun c97 => ?_) (fun c97 => ?_)
            · refine g_aload_n (q := 104) dX0_evening_103 rfl rfl ?_
              refine g_get (C := RX0) (T := TX0) (ci := 0) (k := 3) (q := 107) dX0_evening_104 q521 rfl in_X0 (by decide) hC10 rfl rfl ?_
              refine g_iload_n (q := 108) dX0_evening_107 rfl rfl ?_
              refine g_cvVP (I' := iX3_waits) (mc := 0) (ms := 0) (rc := 0) (rs := 0) (ci := 4) (q := 111) dX0_evening_108 q1150 q1151 rfl q1152 gcX3_waits (PP.p hk93) (GO.deep (c_pWait (d := 0) (kn := kn) hP2 hk93 hw k3.1 hZ93 (by omega) (by omega) hkn (by omega)) (by omega)) rfl rfl (fun k108 z108 => ?_)
              obtain ⟨hZ108, hk108⟩ := z108
              obtain ⟨bl11, hC11⟩ := hP2.c hk108
              refine g_aload_n (q := 112) dX0_evening_111 rfl rfl ?_
              refine g_get (C := RX0) (T := TX0) (ci := 0) (k := 3) (q := 115) dX0_evening_112 q521 rfl in_X0 (by decide) hC11 rfl rfl ?_
              refine g_aload_n (q := 116) dX0_evening_115 rfl rfl ?_
              refine g_iload_n (q := 117) dX0_evening_116 rfl rfl ?_
              refine g_cvP (I' := iX0_rowAt) (mc := 0) (ms := 0) (rc := 0) (rs := 0) (ci := 0) (q := 120) dX0_evening_117 q992 q994 rfl qs28 gcX0_rowAt hC11 (GO.deep (c_pRow (d := 0) hX70 hP2 hk108 hr.1 hr.2) (by omega)) rfl rfl (fun v117 k117 z117 => ?_)
              obtain ⟨ra4, rfl, hR4, rfl⟩ := z117
              refine g_iconst (q := 121) dX0_evening_120 rfl ?_
              refine g_cvP (I' := iX3_learns) (mc := 0) (ms := 0) (rc := 0) (rs := 0) (ci := 4) (q := 124) dX0_evening_121 q1136 q1137 rfl q1138 gcX3_learns (PP.p hk108) (GO.deep (c_pLearnN (d := 0) (kn := kn) hP2 hk108 hw q3 hZ108 (by omega) hkn hr.1 hr.2 hR4) (by omega)) rfl rfl (fun v121 k121 z121 => ?_)
              obtain ⟨rfl, hZ121, hk121⟩ := z121
              refine g_istore (q := 126) dX0_evening_124 gs5 rfl ?_
              refine g_iload (q := 128) dX0_evening_126 rfl rfl ?_
              refine g_iconst (q := 129) dX0_evening_128 rfl ?_
              refine g_icmp_eq (t := 138) (q := 132) dX0_evening_129 (by decide) rfl (by unfold in32; omega) (by unfold in32; omega) (fun c129 => ?_) (fun c129 => ?_)
              · refine g_ldc (a := -2000000000) (q := 140) dX0_evening_138 q1226 (by decide) rfl ?_
                refine g_goto (t := 148) dX0_evening_140 (by decide) ?_
                exact g_iret dX0_evening_148 rfl ⟨_, rfl, congrArg vI (by unfold mEvening eveI; first | rw [if_pos (by omega)] | rw [if_neg (by omega)]), hX70.paperx hk121⟩
              · refine g_iload (q := 134) dX0_evening_132 rfl rfl ?_
                refine g_iconst (q := 135) dX0_evening_134 rfl ?_
                refine g_icmp_ne (t := 143) (q := 138) dX0_evening_135 (by decide) rfl (by unfold in32; omega) (by unfold in32; omega) (fun c135 => ?_) (fun c135 => ?_)
                · refine g_iload (q := 145) dX0_evening_143 rfl rfl ?_
                  refine g_iload (q := 147) dX0_evening_145 rfl rfl ?_
                  refine g_isub (q := 148) dX0_evening_147 rfl ?_
                  exact g_iret dX0_evening_148 rfl ⟨_, rfl, congrArg vI (by unfold mEvening eveI; first | rw [if_pos (by omega)] | rw [if_neg (by omega)]), hX70.paperx hk121⟩
                · refine g_ldc (a := -2000000000) (q := 140) dX0_evening_138 q1226 (by decide) rfl ?_
                  refine g_goto (t := 148) dX0_evening_140 (by decide) ?_
                  exact g_iret dX0_evening_148 rfl ⟨_, rfl, congrArg vI (by unfold mEvening eveI; first | rw [if_pos (by omega)] | rw [if_neg (by omega)]), hX70.paperx hk121⟩
            · refine g_ldc (a := -2000000000) (q := 102) dX0_evening_100 q1226 (by decide) rfl ?_
              exact g_iret dX0_evening_102 rfl ⟨_, rfl, congrArg vI (by unfold mEvening eveI; rw [if_pos (by omega)]), hX70.paperx hk93⟩
          · refine g_ldc (a := -2000000000) (q := 49) dX0_evening_47 q1226 (by decide) rfl ?_
            exact g_iret dX0_evening_49 rfl ⟨_, rfl, congrArg vI (by unfold mEvening eveI; rw [if_pos (by omega)]), hX.paperx hk40⟩
        · exact absurd cc.2.2 c24
  · rw [if_neg cc]
    show GO E iX0_evening _ _ _ 0 [some (.ref x), some (vI r), some (vI l), some (vI v), none, none] [] _ _
    refine g_aload_n (q := 1) dX0_evening_0 rfl rfl ?_
    refine g_iload_n (q := 2) dX0_evening_1 rfl rfl ?_
    refine g_cv (I' := iX0_isRow) (mc := 0) (ms := 0) (rc := 0) (rs := 0) (ci := 0) (q := 5) dX0_evening_2 q983 q985 rfl qs26 gcX0_isRow hC (GO.deep (c_isRowX (d := 0) hX h1 ⟨hw.2.1.1, hw.2.1.2⟩) (by omega)) rfl rfl ?_
    refine g_ifeqB (t := 27) (q := 8) dX0_evening_5 (by decide) rfl (fun c5 => ?_) (fun c5 => ?_)
    · refine g_ldc (a := -2000000000) (q := 29) dX0_evening_27 q1226 (by decide) rfl ?_
      exact g_iret dX0_evening_29 rfl ⟨_, rfl, rfl, hX⟩
    · refine g_iload_n (q := 9) dX0_evening_8 rfl rfl ?_
      refine g_i2l (q := 10) dX0_evening_9 (by first | assumption | exact in32_gB | exact in32_gCmp | (unfold in32; omega)) rfl ?_
      refine g_lconst0 (q := 11) dX0_evening_10 rfl ?_
      refine g_ldc2 (a := 23) (q := 14) dX0_evening_11 q1254 (by decide) rfl ?_
      refine g_cs (I' := iX0_in) (mc := 0) (ms := 0) (rc := 0) (rs := 0) (q := 17) dX0_evening_14 q130 q131 gcX0_in (c_inX (by have := h2.1; have := h2.2; unfold in64; omega) (by unfold in64; omega) (by unfold in64; omega)) rfl rfl ?_
      refine g_ifeqB (t := 27) (q := 20) dX0_evening_17 (by decide) rfl (fun c17 => ?_) (fun c17 => ?_)
      · refine g_ldc (a := -2000000000) (q := 29) dX0_evening_27 q1226 (by decide) rfl ?_
        exact g_iret dX0_evening_29 rfl ⟨_, rfl, rfl, hX⟩
      · refine g_iload_n (q := 21) dX0_evening_20 rfl rfl ?_
        refine g_cs (I' := iX0_areHours) (mc := 0) (ms := 0) (rc := 0) (rs := 0) (q := 24) dX0_evening_21 q1146 q1147 gcX0_areHours (GO.deep (c_areHours (d := 0) h3) (by omega)) rfl rfl ?_
        refine g_ifneB (t := 30) (q := 27) dX0_evening_24 (by decide) rfl (fun c24 => ?_) (fun c24 => ?_)
        · exact absurd ⟨c5, c17, c24⟩ cc
        · refine g_ldc (a := -2000000000) (q := 29) dX0_evening_27 q1226 (by decide) rfl ?_
          exact g_iret dX0_evening_29 rfl ⟨_, rfl, rfl, hX⟩
/-- without a sort, counted -/
theorem c_mustIn (hX : (XR E x mf ow h w hs si lo bk uW uH uB iL iS tp td fk fp my wd uN)) (hw : WFw w) (hh : HSok B hs) (hr : 0 ≤ r) (hr1 : r < w 2) (h0 : 0 ≤ s) (h1 : s ≤ 3) : 1 ≤ orM (mWithout w hs (-1) kn r s) ∧ orM (mWithout w hs (-1) kn r s) ≤ 41 := by
  have hq : r < upI w (5 + s) 0 2 := by rw [upI_ne (by omega)]; exact hr1
  exact orM_41 (mLearns_ok (kl := -1) (kn := kn) (hw.noLean h0 h1) hr hq hh).2
theorem l_mustX (hw : WFw w) (hh : HSok B hs) (hZ : HZ w hs) (hB : B ≤ 800000000) (hkn : in32 kn) (hr : 0 ≤ r) (hr1 : r < w 2) : ∀ (f : Nat) (s best : Int) (k : gH) (x5 : Option Value), 1 ≤ s → s + f = 4 → (0 ≤ best ∧ best ≤ 3) → (XR E x mf ow k w hs si lo bk uW uH uB iL iS tp td fk fp my wd uN) →
    GO E iX0_must (d + 1304) 0 0 18 [some (.ref x), some (vI r), some (vI best), some (vI (orM (mWithout w hs (-1) kn r best))), some (vI s), x5] [] k (qP fun o k => o = vI (mustL w hs (-1) kn r f s best) ∧ (XR E x mf ow k w hs si lo bk uW uH uB iL iS tp td fk fp my wd uN)) := by
  intro f
  induction f with
  | zero =>
    intro s best k x5 h0 h1 hb hX
    refine g_iload (q := 20) dX0_must_18 rfl rfl ?_
    refine g_iconst (q := 21) dX0_must_20 rfl ?_
    refine g_icmp_ge (t := 64) (q := 24) dX0_must_21 (by decide) rfl (by first | assumption | exact in32_gB | exact in32_gCmp | (unfold in32; omega)) (by first | assumption | exact in32_gB | exact in32_gCmp | (unfold in32; omega)) (fun c21 => ?_) (fun c21 => ?_)
    · refine g_iload_n (q := 65) dX0_must_64 rfl rfl ?_
      exact g_iret dX0_must_65 rfl ⟨_, rfl, rfl, hX⟩
    · exact absurd c21 (by omega)
  | succ f ih =>
    intro s best k x5 h0 h1 hb hX
    obtain ⟨x1, x2, ⟨w3, bl, tq, pl, bp, hC, -⟩, ⟨t, s1, -⟩, -⟩ := id hX
    have hP := PP.of hX s1
    have o1 := c_mustIn (kn := kn) hX hw hh hr hr1 (s := s) (by omega) (by omega)
    have o2 := c_mustIn (kn := kn) hX hw hh hr hr1 (s := best) (by omega) (by omega)
    have hq : r < upI w (5 + s) 0 2 := by rw [upI_ne (by omega)]; exact hr1
    have ok1 := (mLearns_ok (kl := -1) (kn := kn) (hw.noLean (s := s) (by omega) (by omega)) hr hq hh).2
    have ih' : ∀ b' k', (XR E x mf ow k' w hs si lo bk uW uH uB iL iS tp td fk fp my wd uN) → b' = (if orM (mWithout w hs (-1) kn r best) < orM (mWithout w hs (-1) kn r s) then s else best) → (0 ≤ b' ∧ b' ≤ 3) → ∀ x5, GO E iX0_must (d + 1304) 0 0 18 [some (.ref x), some (vI r), some (vI b'), some (vI (orM (mWithout w hs (-1) kn r b'))), some (vI (s + 1)), x5] [] k' (qP fun o k => o = vI (mustL w hs (-1) kn r (f + 1) s best) ∧ (XR E x mf ow k w hs si lo bk uW uH uB iL iS tp td fk fp my wd uN)) := fun b' k' hX' e hb' x5 => by
      have z := ih (s + 1) b' k' x5 (by omega) (by omega) hb' hX'
      rw [e] at z ⊢
      exact z
    refine g_iload (q := 20) dX0_must_18 rfl rfl ?_
    refine g_iconst (q := 21) dX0_must_20 rfl ?_
    refine g_icmp_ge (t := 64) (q := 24) dX0_must_21 (by decide) rfl (by first | assumption | exact in32_gB | exact in32_gCmp | (unfold in32; omega)) (by first | assumption | exact in32_gB | exact in32_gCmp | (unfold in32; omega)) (fun c21 => ?_) (fun c21 => ?_)
    · exact absurd c21 (by omega)
    · refine g_aload_n (q := 25) dX0_must_24 rfl rfl ?_
      refine g_cvP (I' := iX0_onPaper) (mc := 0) (ms := 0) (rc := 0) (rs := 0) (ci := 0) (q := 28) dX0_must_25 q1204 q1206 rfl qs34 gcX0_onPaper hC (GO.deep (c_onPaper (d := 0) hX s1) (by omega)) rfl rfl (fun v25 k25 z25 => ?_)
      obtain ⟨rfl, hk1⟩ := z25
      obtain ⟨bl1, hC1⟩ := hP.c hk1
      refine g_aload_n (q := 29) dX0_must_28 rfl rfl ?_
      refine g_iload_n (q := 30) dX0_must_29 rfl rfl ?_
      refine g_cvP (I' := iX0_rowAt) (mc := 0) (ms := 0) (rc := 0) (rs := 0) (ci := 0) (q := 33) dX0_must_30 q992 q994 rfl qs28 gcX0_rowAt hC1 (GO.deep (c_pRow (d := 0) hX hP hk1 hr hr1) (by omega)) rfl rfl (fun v30 k30 z30 => ?_)
      obtain ⟨ra, rfl, hR, rfl⟩ := z30
      refine g_iload (q := 35) dX0_must_33 rfl rfl ?_
      refine g_cvP (I' := iX3_learns) (mc := 0) (ms := 0) (rc := 0) (rs := 0) (ci := 4) (q := 38) dX0_must_35 q1136 q1137 rfl q1138 gcX3_learns (PP.p hk1) (c_pLearn (kn := kn) hP hk1 hw hh hZ (by omega) hkn hr hr1 hR (by omega)) rfl rfl (fun v35 k35 z35 => ?_)
      obtain ⟨rfl, hZ18, hk18⟩ := z35
      rw [show woW w s = upI w (5 + s) 0 from if_pos (by omega)] at *
      refine g_cs (I' := iX0_counted) (mc := 0) (ms := 0) (rc := 0) (rs := 0) (q := 41) dX0_must_38 q1239 q1240 gcX0_counted (GO.deep (c_counted (d := 0) (by unfold in32; omega)) (by omega)) rfl rfl ?_
      show GO E iX0_must _ _ _ 41 _ [vI (orM (mWithout w hs (-1) kn r s))] _ _
      refine g_istore (q := 43) dX0_must_41 gs5 rfl ?_
      refine g_iload (q := 45) dX0_must_43 rfl rfl ?_
      refine g_iload_n (q := 46) dX0_must_45 rfl rfl ?_
      refine g_icmp_gt (t := 52) (q := 49) dX0_must_46 (by decide) rfl (by first | assumption | exact in32_gB | exact in32_gCmp | (unfold in32; omega)) (by first | assumption | exact in32_gB | exact in32_gCmp | (unfold in32; omega)) (fun c46 => ?_) (fun c46 => ?_)
      · refine g_iload (q := 54) dX0_must_52 rfl rfl ?_
        refine g_istore_n (q := 55) dX0_must_54 gs3 rfl ?_
        refine g_iload (q := 57) dX0_must_55 rfl rfl ?_
        refine g_istore_n (q := 58) dX0_must_57 gs2 rfl ?_
        refine g_iinc (q := 61) dX0_must_58 rfl gs4 rfl ?_
        refine g_goto (t := 18) dX0_must_61 (by decide) ?_
        first
        | exact ih' best _ (hX.paperx hk18) (if_neg (by omega)).symm hb _
        | exact ih' s _ (hX.paperx hk18) (if_pos (by omega)).symm (by omega) _
      · refine g_goto (t := 58) dX0_must_49 (by decide) ?_
        refine g_iinc (q := 61) dX0_must_58 rfl gs4 rfl ?_
        refine g_goto (t := 18) dX0_must_61 (by decide) ?_
        first
        | exact ih' best _ (hX.paperx hk18) (if_neg (by omega)).symm hb _
        | exact ih' s _ (hX.paperx hk18) (if_pos (by omega)).symm (by omega) _
theorem c_mustX (hX : (XR E x mf ow h w hs si lo bk uW uH uB iL iS tp td fk fp my wd uN)) (hw : WFw w) (hh : HSok B hs) (hZ : HZ w hs) (hB : B ≤ 800000000) (hkn : in32 kn) (h1 : in32 r) :
    CALL E iX0_must (d + 1304) 0 0 [.ref x, vI r] h (qP fun o k => o = vI (if 0 ≤ r ∧ r ≤ w 2 - 1 then mustL w hs (-1) kn r 3 1 0 else -2) ∧ (XR E x mf ow k w hs si lo bk uW uH uB iL iS tp td fk fp my wd uN)) := by
  obtain ⟨x1, x2, ⟨w3, bl, tq, pl, bp, hC, -⟩, ⟨t, s1, -⟩, -⟩ := id hX
  have hP := PP.of hX s1
  by_cases cc : 0 ≤ r ∧ r ≤ w 2 - 1
  · rw [if_pos cc]
    have hr : 0 ≤ r := cc.1
    have hr1 : r < w 2 := by omega
    have o1 := c_mustIn (kn := kn) hX hw hh hr hr1 (s := 0) (by omega) (by omega)
    have hq : r < upI w (5 + 0) 0 2 := by rw [upI_ne (by omega)]; exact hr1
    have ok1 := (mLearns_ok (kl := -1) (kn := kn) (hw.noLean (s := 0) (by omega) (by omega)) hr hq hh).2
    show GO E iX0_must _ _ _ 0 [some (.ref x), some (vI r), none, none, none, none] [] _ _
    refine g_aload_n (q := 1) dX0_must_0 rfl rfl ?_
    refine g_iload_n (q := 2) dX0_must_1 rfl rfl ?_
    refine g_cv (I' := iX0_isRow) (mc := 0) (ms := 0) (rc := 0) (rs := 0) (ci := 0) (q := 5) dX0_must_2 q983 q985 rfl qs26 gcX0_isRow hC (GO.deep (c_isRowX (d := 0) hX h1 ⟨hw.2.1.1, hw.2.1.2⟩) (by omega)) rfl rfl ?_
    refine g_ifneB (t := 11) (q := 8) dX0_must_5 (by decide) rfl (fun c5 => ?_) (fun c5 => ?_)
    · refine g_iconst (q := 12) dX0_must_11 rfl ?_
      refine g_istore_n (q := 13) dX0_must_12 gs2 rfl ?_
      refine g_iconst (q := 14) dX0_must_13 rfl ?_
      refine g_istore_n (q := 15) dX0_must_14 gs3 rfl ?_
      refine g_iconst (q := 16) dX0_must_15 rfl ?_
      refine g_istore (q := 18) dX0_must_16 gs4 rfl ?_
      refine g_iload (q := 20) dX0_must_18 rfl rfl ?_
      refine g_iconst (q := 21) dX0_must_20 rfl ?_
      refine g_icmp_ge (t := 64) (q := 24) dX0_must_21 (by decide) rfl (by first | assumption | exact in32_gB | exact in32_gCmp | (unfold in32; omega)) (by first | assumption | exact in32_gB | exact in32_gCmp | (unfold in32; omega)) (fun c21 => absurd c21 (by decide)) (fun c21 => ?_)
      refine g_aload_n (q := 25) dX0_must_24 rfl rfl ?_
      refine g_cvP (I' := iX0_onPaper) (mc := 0) (ms := 0) (rc := 0) (rs := 0) (ci := 0) (q := 28) dX0_must_25 q1204 q1206 rfl qs34 gcX0_onPaper hC (GO.deep (c_onPaper (d := 0) hX s1) (by omega)) rfl rfl (fun v25 k25 z25 => ?_)
      obtain ⟨rfl, hk1⟩ := z25
      obtain ⟨bl1, hC1⟩ := hP.c hk1
      refine g_aload_n (q := 29) dX0_must_28 rfl rfl ?_
      refine g_iload_n (q := 30) dX0_must_29 rfl rfl ?_
      refine g_cvP (I' := iX0_rowAt) (mc := 0) (ms := 0) (rc := 0) (rs := 0) (ci := 0) (q := 33) dX0_must_30 q992 q994 rfl qs28 gcX0_rowAt hC1 (GO.deep (c_pRow (d := 0) hX hP hk1 hr hr1) (by omega)) rfl rfl (fun v30 k30 z30 => ?_)
      obtain ⟨ra, rfl, hR, rfl⟩ := z30
      refine g_iload (q := 35) dX0_must_33 rfl rfl ?_
      refine g_cvP (I' := iX3_learns) (mc := 0) (ms := 0) (rc := 0) (rs := 0) (ci := 4) (q := 38) dX0_must_35 q1136 q1137 rfl q1138 gcX3_learns (PP.p hk1) (c_pLearn (kn := kn) hP hk1 hw hh hZ (by omega) hkn hr hr1 hR (by omega)) rfl rfl (fun v35 k35 z35 => ?_)
      obtain ⟨rfl, hZ18, hk18⟩ := z35
      rw [show woW w 0 = upI w (5 + 0) 0 from if_pos (by omega)] at *
      refine g_cs (I' := iX0_counted) (mc := 0) (ms := 0) (rc := 0) (rs := 0) (q := 41) dX0_must_38 q1239 q1240 gcX0_counted (GO.deep (c_counted (d := 0) (by unfold in32; omega)) (by omega)) rfl rfl ?_
      show GO E iX0_must _ _ _ 41 _ [vI (orM (mWithout w hs (-1) kn r 0))] _ _
      refine g_istore (q := 43) dX0_must_41 gs5 rfl ?_
      refine g_iload (q := 45) dX0_must_43 rfl rfl ?_
      refine g_iload_n (q := 46) dX0_must_45 rfl rfl ?_
      refine g_icmp_gt (t := 52) (q := 49) dX0_must_46 (by decide) rfl (by first | assumption | exact in32_gB | exact in32_gCmp | (unfold in32; omega)) (by first | assumption | exact in32_gB | exact in32_gCmp | (unfold in32; omega)) (fun c46 => ?_) (fun c46 => ?_)
      · refine g_iload (q := 54) dX0_must_52 rfl rfl ?_
        refine g_istore_n (q := 55) dX0_must_54 gs3 rfl ?_
        refine g_iload (q := 57) dX0_must_55 rfl rfl ?_
        refine g_istore_n (q := 58) dX0_must_57 gs2 rfl ?_
        refine g_iinc (q := 61) dX0_must_58 rfl gs4 rfl ?_
        refine g_goto (t := 18) dX0_must_61 (by decide) ?_
        exact l_mustX (d := d) hw hh hZ hB hkn hr hr1 3 1 0 _ _ (by omega) (by omega) (by omega) (hX.paperx hk18)
      · exact absurd c46 (by omega)
    · exact absurd cc c5
  · rw [if_neg cc]
    show GO E iX0_must _ _ _ 0 [some (.ref x), some (vI r), none, none, none, none] [] _ _
    refine g_aload_n (q := 1) dX0_must_0 rfl rfl ?_
    refine g_iload_n (q := 2) dX0_must_1 rfl rfl ?_
    refine g_cv (I' := iX0_isRow) (mc := 0) (ms := 0) (rc := 0) (rs := 0) (ci := 0) (q := 5) dX0_must_2 q983 q985 rfl qs26 gcX0_isRow hC (GO.deep (c_isRowX (d := 0) hX h1 ⟨hw.2.1.1, hw.2.1.2⟩) (by omega)) rfl rfl ?_
    refine g_ifneB (t := 11) (q := 8) dX0_must_5 (by decide) rfl (fun c5 => ?_) (fun c5 => ?_)
    · exact absurd c5 cc
    · refine g_bipush (q := 10) dX0_must_8 rfl ?_
      exact g_iret dX0_must_10 rfl ⟨_, rfl, rfl, hX⟩
end
