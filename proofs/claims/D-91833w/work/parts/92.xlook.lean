/-! THE COMPONENT: what is looked up -/
set_option maxRecDepth 100000
section
variable {E : gE} {d rc rs x : Nat} {mf : Nat → va_E} {ow : OW} {h : gH} {w hs bk tp iL iS my wd : Int → Int} {uW uH uB uN : Int → Int → Int} {si lo td fk fp : Int}
variable {r r2 v n B kn wo i s l c b a th has : Int} {ra t p : Nat} {hs1 : Int → Int} {k : gH}
theorem l_nearX0 (hX : (XR E x mf ow h w hs si lo bk uW uH uB iL iS tp td fk fp my wd uN)) (hw : WFw w) (hr : 0 ≤ r) (hr1 : r < w 2) (hr2 : 0 ≤ r2) (hr3 : r2 < w 2) (hc : 1 ≤ c ∧ c ≤ 11) : ∀ (f : Nat) (i n : Int) (x7 x8 : Option Value), 1 ≤ i → i + f = w (34 + 14 * r) → (0 ≤ n ∧ n ≤ i) →
    GO E iX0_near (d + 4) 0 0 37 [some (.ref x), some (vI r), some (vI r2), some (vI c), some (vI 0), some (vI n), some (vI i), x7, x8] [] h (qP fun o k => o = vI (nearL w r r2 c 0 f i n) ∧ (XR E x mf ow k w hs si lo bk uW uH uB iL iS tp td fk fp my wd uN)) := by
  have hrw := hw.row hr hr1
  have hw1 := hw.1
  obtain ⟨x1, x2, ⟨w3, bl, tq, pl, bp, hC, -⟩, -⟩ := id hX
  have en : (((w (34 + 14 * r)).toNat : Nat) : Int) = w (34 + 14 * r) := Int.toNat_of_nonneg (by omega)
  intro f
  induction f with
  | zero =>
    intro i n x7 x8 h0 h1 h2
    refine g_iload (q := 39) dX0_near_37 rfl rfl ?_
    refine g_aload_n (q := 40) dX0_near_39 rfl rfl ?_
    refine g_iload_n (q := 41) dX0_near_40 rfl rfl ?_
    refine g_cvP (I' := iX0_rowAt) (mc := 0) (ms := 0) (rc := 0) (rs := 0) (ci := 0) (q := 44) dX0_near_41 q992 q994 rfl qs28 gcX0_rowAt hC (c_rowAt hX hr hr1) rfl rfl (fun v41 k41 z41 => ?_)
    obtain ⟨ra, rfl, hR, rfl⟩ := z41
    obtain ⟨-, g, hg1, hg2⟩ := hR
    refine g_alen 0 (q := 45) dX0_near_44 hg1 rfl rfl rfl ?_
    rw [en]
    refine g_icmp_ge (t := 145) (q := 48) dX0_near_45 (by decide) rfl (by first | assumption | exact in32_gB | exact in32_gCmp | (unfold in32; omega)) (by first | assumption | exact in32_gB | exact in32_gCmp | (unfold in32; omega)) (fun c45 => ?_) (fun c45 => ?_)
    · refine g_iload (q := 147) dX0_near_145 rfl rfl ?_
      exact g_iret dX0_near_147 rfl ⟨_, rfl, rfl, hX⟩
    · exact absurd c45 (by omega)
  | succ f ih =>
    intro i n x7 x8 h0 h1 h2
    have t1 := hw.thing hr hr1 (i := i) (by omega) (by omega)
    have t2 := hw.thing hr hr1 (i := i - 1) (by omega) (by omega)
    have p1 := plcL_in (w := w) (r := r2) (t := w (34 + 14 * r + 1 + i)) (w (34 + 14 * r2)).toNat 0 (by omega)
    have p2 := plcL_in (w := w) (r := r2) (t := w (34 + 14 * r + 1 + (i - 1))) (w (34 + 14 * r2)).toNat 0 (by omega)
    have hrw2 := hw.row hr2 hr3
    have ih' : ∀ n', n' = n + (if ¬ mPlace w r2 (w (34 + 14 * r + 1 + (i - 1))) = -1 ∧ ¬ mPlace w r2 (w (34 + 14 * r + 1 + i)) = -1 ∧ (if (0 : Int) = 0 then mPlace w r2 (w (34 + 14 * r + 1 + i)) - mPlace w r2 (w (34 + 14 * r + 1 + (i - 1))) else mPlace w r2 (w (34 + 14 * r + 1 + (i - 1))) - mPlace w r2 (w (34 + 14 * r + 1 + i))) = c then 1 else 0) → (0 ≤ n' ∧ n' ≤ i + 1) → ∀ x7 x8,
        GO E iX0_near (d + 4) 0 0 37 [some (.ref x), some (vI r), some (vI r2), some (vI c), some (vI 0), some (vI n'), some (vI (i + 1)), x7, x8] [] h (qP fun o k => o = vI (nearL w r r2 c 0 (f + 1) i n) ∧ (XR E x mf ow k w hs si lo bk uW uH uB iL iS tp td fk fp my wd uN)) := fun n' e q x7 x8 => by
      have z := ih (i + 1) n' x7 x8 (by omega) (by omega) q
      rw [e] at z ⊢
      exact z
    rw [if_pos (rfl : (0 : Int) = 0)] at ih'
    change -1 ≤ mPlace w r2 (w (34 + 14 * r + 1 + i)) ∧ mPlace w r2 (w (34 + 14 * r + 1 + i)) < _ at p1
    change -1 ≤ mPlace w r2 (w (34 + 14 * r + 1 + (i - 1))) ∧ mPlace w r2 (w (34 + 14 * r + 1 + (i - 1))) < _ at p2
    refine g_iload (q := 39) dX0_near_37 rfl rfl ?_
    refine g_aload_n (q := 40) dX0_near_39 rfl rfl ?_
    refine g_iload_n (q := 41) dX0_near_40 rfl rfl ?_
    refine g_cvP (I' := iX0_rowAt) (mc := 0) (ms := 0) (rc := 0) (rs := 0) (ci := 0) (q := 44) dX0_near_41 q992 q994 rfl qs28 gcX0_rowAt hC (c_rowAt hX hr hr1) rfl rfl (fun v41 k41 z41 => ?_)
    obtain ⟨ra, rfl, hR, rfl⟩ := z41
    obtain ⟨-, g, hg1, hg2⟩ := hR
    refine g_alen 0 (q := 45) dX0_near_44 hg1 rfl rfl rfl ?_
    rw [en]
    refine g_icmp_ge (t := 145) (q := 48) dX0_near_45 (by decide) rfl (by first | assumption | exact in32_gB | exact in32_gCmp | (unfold in32; omega)) (by first | assumption | exact in32_gB | exact in32_gCmp | (unfold in32; omega)) (fun c45 => ?_) (fun c45 => ?_)
    · exact absurd c45 (by omega)
    · refine g_aload_n (q := 49) dX0_near_48 rfl rfl ?_
      refine g_iload_n (q := 50) dX0_near_49 rfl rfl ?_
      refine g_cvP (I' := iX0_rowAt) (mc := 0) (ms := 0) (rc := 0) (rs := 0) (ci := 0) (q := 53) dX0_near_50 q992 q994 rfl qs28 gcX0_rowAt hC (c_rowAt hX hr2 hr3) rfl rfl (fun v50 k50 z50 => ?_)
      obtain ⟨rb, rfl, hR5, rfl⟩ := z50
      obtain ⟨-, g5, hg51, hg52⟩ := hR5
      refine g_aload_n (q := 54) dX0_near_53 rfl rfl ?_
      refine g_iload_n (q := 55) dX0_near_54 rfl rfl ?_
      refine g_cvP (I' := iX0_rowAt) (mc := 0) (ms := 0) (rc := 0) (rs := 0) (ci := 0) (q := 58) dX0_near_55 q992 q994 rfl qs28 gcX0_rowAt hC (c_rowAt hX hr hr1) rfl rfl (fun v55 k55 z55 => ?_)
      obtain ⟨ra2, rfl, hR6, rfl⟩ := z55
      obtain ⟨-, g6, hg61, hg62⟩ := hR6
      refine g_iload (q := 60) dX0_near_58 rfl rfl ?_
      refine g_if_eq (t := 68) (q := 63) dX0_near_60 (by decide) rfl (by first | assumption | exact in32_gB | exact in32_gCmp | (unfold in32; omega)) (fun c60 => ?_) (fun c60 => ?_)
      · refine g_iload (q := 70) dX0_near_68 rfl rfl ?_
        refine g_iconst (q := 71) dX0_near_70 rfl ?_
        refine g_isub (q := 72) dX0_near_71 rfl ?_
        refine g_iald (q := 73) dX0_near_72 hg61 (by omega) (by omega) rfl ?_
        rw [hg62 _ (by omega) (by omega)]
        refine g_cs (I' := iX0_placeOf) (mc := 0) (ms := 0) (rc := 0) (rs := 0) (q := 76) dX0_near_73 q1271 q1272 gcX0_placeOf (GO.deep (c_placeOf (d := 0) hw hr2 hr3 hg51 hg52 (by unfold in32; omega)) (by omega)) rfl rfl ?_
        refine g_istore (q := 78) dX0_near_76 gs7 rfl ?_
        refine g_aload_n (q := 79) dX0_near_78 rfl rfl ?_
        refine g_iload_n (q := 80) dX0_near_79 rfl rfl ?_
        refine g_cvP (I' := iX0_rowAt) (mc := 0) (ms := 0) (rc := 0) (rs := 0) (ci := 0) (q := 83) dX0_near_80 q992 q994 rfl qs28 gcX0_rowAt hC (c_rowAt hX hr2 hr3) rfl rfl (fun v80 k80 z80 => ?_)
        obtain ⟨rc, rfl, hR8, rfl⟩ := z80
        obtain ⟨-, g8, hg81, hg82⟩ := hR8
        refine g_aload_n (q := 84) dX0_near_83 rfl rfl ?_
        refine g_iload_n (q := 85) dX0_near_84 rfl rfl ?_
        refine g_cvP (I' := iX0_rowAt) (mc := 0) (ms := 0) (rc := 0) (rs := 0) (ci := 0) (q := 88) dX0_near_85 q992 q994 rfl qs28 gcX0_rowAt hC (c_rowAt hX hr hr1) rfl rfl (fun v85 k85 z85 => ?_)
        obtain ⟨ra3, rfl, hR9, rfl⟩ := z85
        obtain ⟨-, g9, hg91, hg92⟩ := hR9
        refine g_iload (q := 90) dX0_near_88 rfl rfl ?_
        refine g_if_eq (t := 100) (q := 93) dX0_near_90 (by decide) rfl (by first | assumption | exact in32_gB | exact in32_gCmp | (unfold in32; omega)) (fun c90 => ?_) (fun c90 => ?_)
        · refine g_iload (q := 102) dX0_near_100 rfl rfl ?_
          refine g_iald (q := 103) dX0_near_102 hg91 (by omega) (by omega) rfl ?_
          rw [hg92 _ (by omega) (by omega)]
          refine g_cs (I' := iX0_placeOf) (mc := 0) (ms := 0) (rc := 0) (rs := 0) (q := 106) dX0_near_103 q1271 q1272 gcX0_placeOf (GO.deep (c_placeOf (d := 0) hw hr2 hr3 hg81 hg82 (by unfold in32; omega)) (by omega)) rfl rfl ?_
          refine g_istore (q := 108) dX0_near_106 gs8 rfl ?_
          refine g_iload (q := 110) dX0_near_108 rfl rfl ?_
          refine g_iload (q := 112) dX0_near_110 rfl rfl ?_
          refine g_iconst (q := 113) dX0_near_112 rfl ?_
          refine g_icmp_eq (t := 135) (q := 116) dX0_near_113 (by decide) rfl (by unfold in32; omega) (by unfold in32; omega) (fun c113 => ?_) (fun c113 => ?_)
          · refine g_iconst (q := 136) dX0_near_135 rfl ?_
            refine g_iadd (q := 137) dX0_near_136 rfl ?_
            refine g_istore (q := 139) dX0_near_137 gs5 rfl ?_
            refine g_iinc (q := 142) dX0_near_139 rfl gs6 rfl ?_
            refine g_goto (t := 37) dX0_near_142 (by decide) ?_
            first
            | exact ih' _ (by rw [if_pos (by omega)]) (by omega) _ _
            | exact ih' _ (by rw [if_neg (by omega)]) (by omega) _ _
          · refine g_iload (q := 118) dX0_near_116 rfl rfl ?_
            refine g_iconst (q := 119) dX0_near_118 rfl ?_
            refine g_icmp_eq (t := 135) (q := 122) dX0_near_119 (by decide) rfl (by unfold in32; omega) (by unfold in32; omega) (fun c119 => ?_) (fun c119 => ?_)
            · refine g_iconst (q := 136) dX0_near_135 rfl ?_
              refine g_iadd (q := 137) dX0_near_136 rfl ?_
              refine g_istore (q := 139) dX0_near_137 gs5 rfl ?_
              refine g_iinc (q := 142) dX0_near_139 rfl gs6 rfl ?_
              refine g_goto (t := 37) dX0_near_142 (by decide) ?_
              first
              | exact ih' _ (by rw [if_pos (by omega)]) (by omega) _ _
              | exact ih' _ (by rw [if_neg (by omega)]) (by omega) _ _
            · refine g_iload (q := 124) dX0_near_122 rfl rfl ?_
              refine g_iload (q := 126) dX0_near_124 rfl rfl ?_
              refine g_isub (q := 127) dX0_near_126 rfl ?_
              refine g_iload_n (q := 128) dX0_near_127 rfl rfl ?_
              refine g_icmp_ne (t := 135) (q := 131) dX0_near_128 (by decide) rfl (by unfold in32; omega) (by unfold in32; omega) (fun c128 => ?_) (fun c128 => ?_)
              · refine g_iconst (q := 136) dX0_near_135 rfl ?_
                refine g_iadd (q := 137) dX0_near_136 rfl ?_
                refine g_istore (q := 139) dX0_near_137 gs5 rfl ?_
                refine g_iinc (q := 142) dX0_near_139 rfl gs6 rfl ?_
                refine g_goto (t := 37) dX0_near_142 (by decide) ?_
                first
                | exact ih' _ (by rw [if_pos (by omega)]) (by omega) _ _
                | exact ih' _ (by rw [if_neg (by omega)]) (by omega) _ _
              · refine g_iconst (q := 132) dX0_near_131 rfl ?_
                refine g_goto (t := 136) dX0_near_132 (by decide) ?_
                refine g_iadd (q := 137) dX0_near_136 rfl ?_
                refine g_istore (q := 139) dX0_near_137 gs5 rfl ?_
                refine g_iinc (q := 142) dX0_near_139 rfl gs6 rfl ?_
                refine g_goto (t := 37) dX0_near_142 (by decide) ?_
                first
                | exact ih' _ (by rw [if_pos (by omega)]) (by omega) _ _
                | exact ih' _ (by rw [if_neg (by omega)]) (by omega) _ _
        · exact absurd rfl c90
      · exact absurd rfl c60
theorem l_nearX1 (hX : (XR E x mf ow h w hs si lo bk uW uH uB iL iS tp td fk fp my wd uN)) (hw : WFw w) (hr : 0 ≤ r) (hr1 : r < w 2) (hr2 : 0 ≤ r2) (hr3 : r2 < w 2) (hc : 1 ≤ c ∧ c ≤ 11) : ∀ (f : Nat) (i n : Int) (x7 x8 : Option Value), 1 ≤ i → i + f = w (34 + 14 * r) → (0 ≤ n ∧ n ≤ i) →
    GO E iX0_near (d + 4) 0 0 37 [some (.ref x), some (vI r), some (vI r2), some (vI c), some (vI 1), some (vI n), some (vI i), x7, x8] [] h (qP fun o k => o = vI (nearL w r r2 c 1 f i n) ∧ (XR E x mf ow k w hs si lo bk uW uH uB iL iS tp td fk fp my wd uN)) := by
  have hrw := hw.row hr hr1
  have hw1 := hw.1
  obtain ⟨x1, x2, ⟨w3, bl, tq, pl, bp, hC, -⟩, -⟩ := id hX
  have en : (((w (34 + 14 * r)).toNat : Nat) : Int) = w (34 + 14 * r) := Int.toNat_of_nonneg (by omega)
  intro f
  induction f with
  | zero =>
    intro i n x7 x8 h0 h1 h2
    refine g_iload (q := 39) dX0_near_37 rfl rfl ?_
    refine g_aload_n (q := 40) dX0_near_39 rfl rfl ?_
    refine g_iload_n (q := 41) dX0_near_40 rfl rfl ?_
    refine g_cvP (I' := iX0_rowAt) (mc := 0) (ms := 0) (rc := 0) (rs := 0) (ci := 0) (q := 44) dX0_near_41 q992 q994 rfl qs28 gcX0_rowAt hC (c_rowAt hX hr hr1) rfl rfl (fun v41 k41 z41 => ?_)
    obtain ⟨ra, rfl, hR, rfl⟩ := z41
    obtain ⟨-, g, hg1, hg2⟩ := hR
    refine g_alen 0 (q := 45) dX0_near_44 hg1 rfl rfl rfl ?_
    rw [en]
    refine g_icmp_ge (t := 145) (q := 48) dX0_near_45 (by decide) rfl (by first | assumption | exact in32_gB | exact in32_gCmp | (unfold in32; omega)) (by first | assumption | exact in32_gB | exact in32_gCmp | (unfold in32; omega)) (fun c45 => ?_) (fun c45 => ?_)
    · refine g_iload (q := 147) dX0_near_145 rfl rfl ?_
      exact g_iret dX0_near_147 rfl ⟨_, rfl, rfl, hX⟩
    · exact absurd c45 (by omega)
  | succ f ih =>
    intro i n x7 x8 h0 h1 h2
    have t1 := hw.thing hr hr1 (i := i) (by omega) (by omega)
    have t2 := hw.thing hr hr1 (i := i - 1) (by omega) (by omega)
    have p1 := plcL_in (w := w) (r := r2) (t := w (34 + 14 * r + 1 + i)) (w (34 + 14 * r2)).toNat 0 (by omega)
    have p2 := plcL_in (w := w) (r := r2) (t := w (34 + 14 * r + 1 + (i - 1))) (w (34 + 14 * r2)).toNat 0 (by omega)
    have hrw2 := hw.row hr2 hr3
    have ih' : ∀ n', n' = n + (if ¬ mPlace w r2 (w (34 + 14 * r + 1 + (i - 1))) = -1 ∧ ¬ mPlace w r2 (w (34 + 14 * r + 1 + i)) = -1 ∧ (if (1 : Int) = 0 then mPlace w r2 (w (34 + 14 * r + 1 + i)) - mPlace w r2 (w (34 + 14 * r + 1 + (i - 1))) else mPlace w r2 (w (34 + 14 * r + 1 + (i - 1))) - mPlace w r2 (w (34 + 14 * r + 1 + i))) = c then 1 else 0) → (0 ≤ n' ∧ n' ≤ i + 1) → ∀ x7 x8,
        GO E iX0_near (d + 4) 0 0 37 [some (.ref x), some (vI r), some (vI r2), some (vI c), some (vI 1), some (vI n'), some (vI (i + 1)), x7, x8] [] h (qP fun o k => o = vI (nearL w r r2 c 1 (f + 1) i n) ∧ (XR E x mf ow k w hs si lo bk uW uH uB iL iS tp td fk fp my wd uN)) := fun n' e q x7 x8 => by
      have z := ih (i + 1) n' x7 x8 (by omega) (by omega) q
      rw [e] at z ⊢
      exact z
    rw [if_neg (by decide : ¬ (1 : Int) = 0)] at ih'
    change -1 ≤ mPlace w r2 (w (34 + 14 * r + 1 + i)) ∧ mPlace w r2 (w (34 + 14 * r + 1 + i)) < _ at p1
    change -1 ≤ mPlace w r2 (w (34 + 14 * r + 1 + (i - 1))) ∧ mPlace w r2 (w (34 + 14 * r + 1 + (i - 1))) < _ at p2
    refine g_iload (q := 39) dX0_near_37 rfl rfl ?_
    refine g_aload_n (q := 40) dX0_near_39 rfl rfl ?_
    refine g_iload_n (q := 41) dX0_near_40 rfl rfl ?_
    refine g_cvP (I' := iX0_rowAt) (mc := 0) (ms := 0) (rc := 0) (rs := 0) (ci := 0) (q := 44) dX0_near_41 q992 q994 rfl qs28 gcX0_rowAt hC (c_rowAt hX hr hr1) rfl rfl (fun v41 k41 z41 => ?_)
    obtain ⟨ra, rfl, hR, rfl⟩ := z41
    obtain ⟨-, g, hg1, hg2⟩ := hR
    refine g_alen 0 (q := 45) dX0_near_44 hg1 rfl rfl rfl ?_
    rw [en]
    refine g_icmp_ge (t := 145) (q := 48) dX0_near_45 (by decide) rfl (by first | assumption | exact in32_gB | exact in32_gCmp | (unfold in32; omega)) (by first | assumption | exact in32_gB | exact in32_gCmp | (unfold in32; omega)) (fun c45 => ?_) (fun c45 => ?_)
    · exact absurd c45 (by omega)
    · refine g_aload_n (q := 49) dX0_near_48 rfl rfl ?_
      refine g_iload_n (q := 50) dX0_near_49 rfl rfl ?_
      refine g_cvP (I' := iX0_rowAt) (mc := 0) (ms := 0) (rc := 0) (rs := 0) (ci := 0) (q := 53) dX0_near_50 q992 q994 rfl qs28 gcX0_rowAt hC (c_rowAt hX hr2 hr3) rfl rfl (fun v50 k50 z50 => ?_)
      obtain ⟨rb, rfl, hR5, rfl⟩ := z50
      obtain ⟨-, g5, hg51, hg52⟩ := hR5
      refine g_aload_n (q := 54) dX0_near_53 rfl rfl ?_
      refine g_iload_n (q := 55) dX0_near_54 rfl rfl ?_
      refine g_cvP (I' := iX0_rowAt) (mc := 0) (ms := 0) (rc := 0) (rs := 0) (ci := 0) (q := 58) dX0_near_55 q992 q994 rfl qs28 gcX0_rowAt hC (c_rowAt hX hr hr1) rfl rfl (fun v55 k55 z55 => ?_)
      obtain ⟨ra2, rfl, hR6, rfl⟩ := z55
      obtain ⟨-, g6, hg61, hg62⟩ := hR6
      refine g_iload (q := 60) dX0_near_58 rfl rfl ?_
      refine g_if_eq (t := 68) (q := 63) dX0_near_60 (by decide) rfl (by first | assumption | exact in32_gB | exact in32_gCmp | (unfold in32; omega)) (fun c60 => ?_) (fun c60 => ?_)
      · exact absurd c60 (by decide)
      · refine g_iload (q := 65) dX0_near_63 rfl rfl ?_
        refine g_goto (t := 72) dX0_near_65 (by decide) ?_
        refine g_iald (q := 73) dX0_near_72 hg61 (by omega) (by omega) rfl ?_
        rw [hg62 _ (by omega) (by omega)]
        refine g_cs (I' := iX0_placeOf) (mc := 0) (ms := 0) (rc := 0) (rs := 0) (q := 76) dX0_near_73 q1271 q1272 gcX0_placeOf (GO.deep (c_placeOf (d := 0) hw hr2 hr3 hg51 hg52 (by unfold in32; omega)) (by omega)) rfl rfl ?_
        refine g_istore (q := 78) dX0_near_76 gs7 rfl ?_
        refine g_aload_n (q := 79) dX0_near_78 rfl rfl ?_
        refine g_iload_n (q := 80) dX0_near_79 rfl rfl ?_
        refine g_cvP (I' := iX0_rowAt) (mc := 0) (ms := 0) (rc := 0) (rs := 0) (ci := 0) (q := 83) dX0_near_80 q992 q994 rfl qs28 gcX0_rowAt hC (c_rowAt hX hr2 hr3) rfl rfl (fun v80 k80 z80 => ?_)
        obtain ⟨rc, rfl, hR8, rfl⟩ := z80
        obtain ⟨-, g8, hg81, hg82⟩ := hR8
        refine g_aload_n (q := 84) dX0_near_83 rfl rfl ?_
        refine g_iload_n (q := 85) dX0_near_84 rfl rfl ?_
        refine g_cvP (I' := iX0_rowAt) (mc := 0) (ms := 0) (rc := 0) (rs := 0) (ci := 0) (q := 88) dX0_near_85 q992 q994 rfl qs28 gcX0_rowAt hC (c_rowAt hX hr hr1) rfl rfl (fun v85 k85 z85 => ?_)
        obtain ⟨ra3, rfl, hR9, rfl⟩ := z85
        obtain ⟨-, g9, hg91, hg92⟩ := hR9
        refine g_iload (q := 90) dX0_near_88 rfl rfl ?_
        refine g_if_eq (t := 100) (q := 93) dX0_near_90 (by decide) rfl (by first | assumption | exact in32_gB | exact in32_gCmp | (unfold in32; omega)) (fun c90 => ?_) (fun c90 => ?_)
        · exact absurd c90 (by decide)
        · refine g_iload (q := 95) dX0_near_93 rfl rfl ?_
          refine g_iconst (q := 96) dX0_near_95 rfl ?_
          refine g_isub (q := 97) dX0_near_96 rfl ?_
          refine g_goto (t := 102) dX0_near_97 (by decide) ?_
          refine g_iald (q := 103) dX0_near_102 hg91 (by omega) (by omega) rfl ?_
          rw [hg92 _ (by omega) (by omega)]
          refine g_cs (I' := iX0_placeOf) (mc := 0) (ms := 0) (rc := 0) (rs := 0) (q := 106) dX0_near_103 q1271 q1272 gcX0_placeOf (GO.deep (c_placeOf (d := 0) hw hr2 hr3 hg81 hg82 (by unfold in32; omega)) (by omega)) rfl rfl ?_
          refine g_istore (q := 108) dX0_near_106 gs8 rfl ?_
          refine g_iload (q := 110) dX0_near_108 rfl rfl ?_
          refine g_iload (q := 112) dX0_near_110 rfl rfl ?_
          refine g_iconst (q := 113) dX0_near_112 rfl ?_
          refine g_icmp_eq (t := 135) (q := 116) dX0_near_113 (by decide) rfl (by unfold in32; omega) (by unfold in32; omega) (fun c113 => ?_) (fun c113 => ?_)
          · refine g_iconst (q := 136) dX0_near_135 rfl ?_
            refine g_iadd (q := 137) dX0_near_136 rfl ?_
            refine g_istore (q := 139) dX0_near_137 gs5 rfl ?_
            refine g_iinc (q := 142) dX0_near_139 rfl gs6 rfl ?_
            refine g_goto (t := 37) dX0_near_142 (by decide) ?_
            first
            | exact ih' _ (by rw [if_pos (by omega)]) (by omega) _ _
            | exact ih' _ (by rw [if_neg (by omega)]) (by omega) _ _
          · refine g_iload (q := 118) dX0_near_116 rfl rfl ?_
            refine g_iconst (q := 119) dX0_near_118 rfl ?_
            refine g_icmp_eq (t := 135) (q := 122) dX0_near_119 (by decide) rfl (by unfold in32; omega) (by unfold in32; omega) (fun c119 => ?_) (fun c119 => ?_)
            · refine g_iconst (q := 136) dX0_near_135 rfl ?_
              refine g_iadd (q := 137) dX0_near_136 rfl ?_
              refine g_istore (q := 139) dX0_near_137 gs5 rfl ?_
              refine g_iinc (q := 142) dX0_near_139 rfl gs6 rfl ?_
              refine g_goto (t := 37) dX0_near_142 (by decide) ?_
              first
              | exact ih' _ (by rw [if_pos (by omega)]) (by omega) _ _
              | exact ih' _ (by rw [if_neg (by omega)]) (by omega) _ _
            · refine g_iload (q := 124) dX0_near_122 rfl rfl ?_
              refine g_iload (q := 126) dX0_near_124 rfl rfl ?_
              refine g_isub (q := 127) dX0_near_126 rfl ?_
              refine g_iload_n (q := 128) dX0_near_127 rfl rfl ?_
              refine g_icmp_ne (t := 135) (q := 131) dX0_near_128 (by decide) rfl (by unfold in32; omega) (by unfold in32; omega) (fun c128 => ?_) (fun c128 => ?_)
              · refine g_iconst (q := 136) dX0_near_135 rfl ?_
                refine g_iadd (q := 137) dX0_near_136 rfl ?_
                refine g_istore (q := 139) dX0_near_137 gs5 rfl ?_
                refine g_iinc (q := 142) dX0_near_139 rfl gs6 rfl ?_
                refine g_goto (t := 37) dX0_near_142 (by decide) ?_
                first
                | exact ih' _ (by rw [if_pos (by omega)]) (by omega) _ _
                | exact ih' _ (by rw [if_neg (by omega)]) (by omega) _ _
              · refine g_iconst (q := 132) dX0_near_131 rfl ?_
                refine g_goto (t := 136) dX0_near_132 (by decide) ?_
                refine g_iadd (q := 137) dX0_near_136 rfl ?_
                refine g_istore (q := 139) dX0_near_137 gs5 rfl ?_
                refine g_iinc (q := 142) dX0_near_139 rfl gs6 rfl ?_
                refine g_goto (t := 37) dX0_near_142 (by decide) ?_
                first
                | exact ih' _ (by rw [if_pos (by omega)]) (by omega) _ _
                | exact ih' _ (by rw [if_neg (by omega)]) (by omega) _ _
theorem c_nearX (hX : (XR E x mf ow h w hs si lo bk uW uH uB iL iS tp td fk fp my wd uN)) (hw : WFw w) (h1 : in32 r) (h2 : in32 r2) (h3 : in32 c) (hb : b = 0 ∨ b = 1) :
    CALL E iX0_near (d + 4) 0 0 [.ref x, vI r, vI r2, vI c, vI b] h (qP fun o k => o = vI (if (0 ≤ r ∧ r ≤ w 2 - 1) ∧ (0 ≤ r2 ∧ r2 ≤ w 2 - 1) ∧ (1 ≤ c ∧ c ≤ 11) then nearL w r r2 c b (w (34 + 14 * r) - 1).toNat 1 0 else -2) ∧ (XR E x mf ow k w hs si lo bk uW uH uB iL iS tp td fk fp my wd uN)) := by
  obtain ⟨x1, x2, ⟨w3, bl, tq, pl, bp, hC, -⟩, -⟩ := id hX
  have q3 := h3.1
  have q4 := h3.2
  show GO E iX0_near _ _ _ 0 [some (.ref x), some (vI r), some (vI r2), some (vI c), some (vI b), none, none, none, none] [] _ _
  refine g_aload_n (q := 1) dX0_near_0 rfl rfl ?_
  refine g_iload_n (q := 2) dX0_near_1 rfl rfl ?_
  refine g_cv (I' := iX0_isRow) (mc := 0) (ms := 0) (rc := 0) (rs := 0) (ci := 0) (q := 5) dX0_near_2 q983 q985 rfl qs26 gcX0_isRow hC (GO.deep (c_isRowX (d := 0) hX h1 ⟨hw.2.1.1, hw.2.1.2⟩) (by omega)) rfl rfl ?_
  refine g_ifeqB (t := 28) (q := 8) dX0_near_5 (by decide) rfl (fun c5 => ?_) (fun c5 => ?_)
  · refine g_bipush (q := 30) dX0_near_28 rfl ?_
    exact g_iret dX0_near_30 rfl (by first | exact ⟨_, rfl, congrArg vI (if_neg (fun q => c25 q.2.2)).symm, hX⟩ | exact ⟨_, rfl, congrArg vI (if_neg (fun q => c13 q.2.1)).symm, hX⟩ | exact ⟨_, rfl, congrArg vI (if_neg (fun q => c5 q.1)).symm, hX⟩)
  · refine g_aload_n (q := 9) dX0_near_8 rfl rfl ?_
    refine g_iload_n (q := 10) dX0_near_9 rfl rfl ?_
    refine g_cv (I' := iX0_isRow) (mc := 0) (ms := 0) (rc := 0) (rs := 0) (ci := 0) (q := 13) dX0_near_10 q983 q985 rfl qs26 gcX0_isRow hC (GO.deep (c_isRowX (d := 0) hX h2 ⟨hw.2.1.1, hw.2.1.2⟩) (by omega)) rfl rfl ?_
    refine g_ifeqB (t := 28) (q := 16) dX0_near_13 (by decide) rfl (fun c13 => ?_) (fun c13 => ?_)
    · refine g_bipush (q := 30) dX0_near_28 rfl ?_
      exact g_iret dX0_near_30 rfl (by first | exact ⟨_, rfl, congrArg vI (if_neg (fun q => c25 q.2.2)).symm, hX⟩ | exact ⟨_, rfl, congrArg vI (if_neg (fun q => c13 q.2.1)).symm, hX⟩ | exact ⟨_, rfl, congrArg vI (if_neg (fun q => c5 q.1)).symm, hX⟩)
    · refine g_iload_n (q := 17) dX0_near_16 rfl rfl ?_
      refine g_i2l (q := 18) dX0_near_17 (by first | assumption | exact in32_gB | exact in32_gCmp | (unfold in32; omega)) rfl ?_
      refine g_lconst1 (q := 19) dX0_near_18 rfl ?_
      refine g_ldc2 (a := 11) (q := 22) dX0_near_19 q1165 (by decide) rfl ?_
      refine g_cs (I' := iX0_in) (mc := 0) (ms := 0) (rc := 0) (rs := 0) (q := 25) dX0_near_22 q130 q131 gcX0_in (c_inX (by unfold in64; omega) (by unfold in64; omega) (by unfold in64; omega)) rfl rfl ?_
      refine g_ifneB (t := 31) (q := 28) dX0_near_25 (by decide) rfl (fun c25 => ?_) (fun c25 => ?_)
      · refine g_iconst (q := 32) dX0_near_31 rfl ?_
        refine g_istore (q := 34) dX0_near_32 gs5 rfl ?_
        refine g_iconst (q := 35) dX0_near_34 rfl ?_
        refine g_istore (q := 37) dX0_near_35 gs6 rfl ?_
        rw [if_pos ⟨c5, c13, c25⟩]
        have hrw := hw.row c5.1 (show r < w 2 by omega)
        rcases hb with rfl | rfl
        · exact l_nearX0 (d := d) hX hw c5.1 (by omega) c13.1 (by omega) c25 (w (34 + 14 * r) - 1).toNat 1 0 _ _ (by omega) (by omega) (by omega)
        · exact l_nearX1 (d := d) hX hw c5.1 (by omega) c13.1 (by omega) c25 (w (34 + 14 * r) - 1).toNat 1 0 _ _ (by omega) (by omega) (by omega)
      · refine g_bipush (q := 30) dX0_near_28 rfl ?_
        exact g_iret dX0_near_30 rfl (by first | exact ⟨_, rfl, congrArg vI (if_neg (fun q => c25 q.2.2)).symm, hX⟩ | exact ⟨_, rfl, congrArg vI (if_neg (fun q => c13 q.2.1)).symm, hX⟩ | exact ⟨_, rfl, congrArg vI (if_neg (fun q => c5 q.1)).symm, hX⟩)
theorem c_strengthX (hX : (XR E x mf ow h w hs si lo bk uW uH uB iL iS tp td fk fp my wd uN)) (hw : WFw w) (h1 : in32 s) (h2 : in32 a) (h3 : in32 b) :
    CALL E iX0_strength (d + 2) 0 0 [.ref x, vI s, vI a, vI b] h (qP fun o k => o = vI (if (0 ≤ s ∧ s ≤ 3) ∧ (0 ≤ a ∧ a ≤ w 1 - 1) ∧ (if s = 3 then 0 ≤ b ∧ b ≤ 11 else 0 ≤ b ∧ b ≤ w 1 - 1) then hs (lkA s a b) else -2) ∧ (XR E x mf ow k w hs si lo bk uW uH uB iL iS tp td fk fp my wd uN)) := by
  obtain ⟨x1, x2, ⟨w3, bl, tq, pl, bp, hC, -⟩, ⟨t, s1, s2, s3, s4, s5⟩, x5, x6, x7⟩ := id hX
  have hw1 := hw.1
  have q3 := h3.1
  have q4 := h3.2
  have hD := s5.2.s
  show GO E iX0_strength _ _ _ 0 [some (.ref x), some (vI s), some (vI a), some (vI b)] [] _ _
  refine g_iload_n (q := 1) dX0_strength_0 rfl rfl ?_
  refine g_cs (I' := iX0_isSort) (mc := 0) (ms := 0) (rc := 0) (rs := 0) (q := 4) dX0_strength_1 q1158 q1159 gcX0_isSort (c_isSortX h1) rfl rfl ?_
  refine g_ifeqB (t := 43) (q := 7) dX0_strength_4 (by decide) rfl (fun c4 => ?_) (fun c4 => ?_)
  · refine g_bipush (q := 45) dX0_strength_43 rfl ?_
    exact g_iret dX0_strength_45 rfl (by first | exact ⟨_, rfl, congrArg vI (if_neg (fun q => by have q2 := q.2.2; rw [if_pos c17] at q2; exact c29 q2)).symm, hX⟩ | exact ⟨_, rfl, congrArg vI (if_neg (fun q => by have q2 := q.2.2; rw [if_neg c17] at q2; exact c40 q2)).symm, hX⟩ | exact ⟨_, rfl, congrArg vI (if_neg (fun q => c12 q.2.1)).symm, hX⟩ | exact ⟨_, rfl, congrArg vI (if_neg (fun q => c4 q.1)).symm, hX⟩)
  · refine g_aload_n (q := 8) dX0_strength_7 rfl rfl ?_
    refine g_iload_n (q := 9) dX0_strength_8 rfl rfl ?_
    refine g_cv (I' := iX0_isThing) (mc := 0) (ms := 0) (rc := 0) (rs := 0) (ci := 0) (q := 12) dX0_strength_9 q1161 q1163 rfl qs32 gcX0_isThing hC (c_isThingX hX h2 ⟨hw.1.1, hw.1.2⟩) rfl rfl ?_
    refine g_ifeqB (t := 43) (q := 15) dX0_strength_12 (by decide) rfl (fun c12 => ?_) (fun c12 => ?_)
    · refine g_bipush (q := 45) dX0_strength_43 rfl ?_
      exact g_iret dX0_strength_45 rfl (by first | exact ⟨_, rfl, congrArg vI (if_neg (fun q => by have q2 := q.2.2; rw [if_pos c17] at q2; exact c29 q2)).symm, hX⟩ | exact ⟨_, rfl, congrArg vI (if_neg (fun q => by have q2 := q.2.2; rw [if_neg c17] at q2; exact c40 q2)).symm, hX⟩ | exact ⟨_, rfl, congrArg vI (if_neg (fun q => c12 q.2.1)).symm, hX⟩ | exact ⟨_, rfl, congrArg vI (if_neg (fun q => c4 q.1)).symm, hX⟩)
    · refine g_iload_n (q := 16) dX0_strength_15 rfl rfl ?_
      refine g_iconst (q := 17) dX0_strength_16 rfl ?_
      refine g_icmp_ne (t := 35) (q := 20) dX0_strength_17 (by decide) rfl (by first | assumption | exact in32_gB | exact in32_gCmp | (unfold in32; omega)) (by first | assumption | exact in32_gB | exact in32_gCmp | (unfold in32; omega)) (fun c17 => ?_) (fun c17 => ?_)
      · refine g_aload_n (q := 36) dX0_strength_35 rfl rfl ?_
        refine g_iload_n (q := 37) dX0_strength_36 rfl rfl ?_
        refine g_cv (I' := iX0_isThing) (mc := 0) (ms := 0) (rc := 0) (rs := 0) (ci := 0) (q := 40) dX0_strength_37 q1161 q1163 rfl qs32 gcX0_isThing hC (c_isThingX hX h3 ⟨hw.1.1, hw.1.2⟩) rfl rfl ?_
        refine g_ifneB (t := 46) (q := 43) dX0_strength_40 (by decide) rfl (fun c40 => ?_) (fun c40 => ?_)
        · refine g_aload_n (q := 47) dX0_strength_46 rfl rfl ?_
          refine g_get (C := RX0) (T := TX0) (ci := 0) (k := 1) (q := 50) dX0_strength_47 q519 rfl in_X0 (by decide) hC rfl rfl ?_
          refine g_getN (C := RX1) (T := TX1) (ci := 1) (k := 4) (q := 53) dX0_strength_50 q486 rfl in_X1 (by decide) s1.2.1 rfl rfl ?_
          refine g_getN (C := RX3) (T := TX3) (ci := 4) (k := 0) (q := 56) dX0_strength_53 q451 rfl in_X3 (by decide) hD.1 rfl rfl ?_
          refine g_iload_n (q := 57) dX0_strength_56 rfl rfl ?_
          refine g_aald (t0 := 6) (q := 58) dX0_strength_57 hD.2.1 rfl rfl (by omega) (by omega) rfl ?_
          refine g_iload_n (q := 59) dX0_strength_58 rfl rfl ?_
          refine g_aald (t0 := 5) (q := 60) dX0_strength_59 (hD.2.2.1 s (by omega) (by omega)) rfl rfl (by omega) (by omega) rfl ?_
          refine g_iload_n (q := 61) dX0_strength_60 rfl rfl ?_
          refine g_iald (q := 62) dX0_strength_61 (hD.2.2.2 s a (by omega) (by omega) (by omega) (by omega)) (by omega) (by omega) rfl ?_
          rw [xl_in (hs := hs) (s := s) (a := a) (b := b) (by omega) (by split <;> omega)]
          exact g_iret dX0_strength_62 rfl (by first | exact ⟨_, rfl, congrArg vI (if_pos ⟨c4, c12, by rw [if_pos c17]; exact c29⟩).symm, hX⟩ | exact ⟨_, rfl, congrArg vI (if_pos ⟨c4, c12, by rw [if_neg c17]; exact c40⟩).symm, hX⟩)
        · refine g_bipush (q := 45) dX0_strength_43 rfl ?_
          exact g_iret dX0_strength_45 rfl (by first | exact ⟨_, rfl, congrArg vI (if_neg (fun q => by have q2 := q.2.2; rw [if_pos c17] at q2; exact c29 q2)).symm, hX⟩ | exact ⟨_, rfl, congrArg vI (if_neg (fun q => by have q2 := q.2.2; rw [if_neg c17] at q2; exact c40 q2)).symm, hX⟩ | exact ⟨_, rfl, congrArg vI (if_neg (fun q => c12 q.2.1)).symm, hX⟩ | exact ⟨_, rfl, congrArg vI (if_neg (fun q => c4 q.1)).symm, hX⟩)
      · refine g_iload_n (q := 21) dX0_strength_20 rfl rfl ?_
        refine g_i2l (q := 22) dX0_strength_21 (by first | assumption | exact in32_gB | exact in32_gCmp | (unfold in32; omega)) rfl ?_
        refine g_lconst0 (q := 23) dX0_strength_22 rfl ?_
        refine g_ldc2 (a := 11) (q := 26) dX0_strength_23 q1165 (by decide) rfl ?_
        refine g_cs (I' := iX0_in) (mc := 0) (ms := 0) (rc := 0) (rs := 0) (q := 29) dX0_strength_26 q130 q131 gcX0_in (GO.deep (c_inX (d := 0) (by unfold in64; omega) (by unfold in64; omega) (by unfold in64; omega)) (by omega)) rfl rfl ?_
        refine g_ifneB (t := 46) (q := 32) dX0_strength_29 (by decide) rfl (fun c29 => ?_) (fun c29 => ?_)
        · refine g_aload_n (q := 47) dX0_strength_46 rfl rfl ?_
          refine g_get (C := RX0) (T := TX0) (ci := 0) (k := 1) (q := 50) dX0_strength_47 q519 rfl in_X0 (by decide) hC rfl rfl ?_
          refine g_getN (C := RX1) (T := TX1) (ci := 1) (k := 4) (q := 53) dX0_strength_50 q486 rfl in_X1 (by decide) s1.2.1 rfl rfl ?_
          refine g_getN (C := RX3) (T := TX3) (ci := 4) (k := 0) (q := 56) dX0_strength_53 q451 rfl in_X3 (by decide) hD.1 rfl rfl ?_
          refine g_iload_n (q := 57) dX0_strength_56 rfl rfl ?_
          refine g_aald (t0 := 6) (q := 58) dX0_strength_57 hD.2.1 rfl rfl (by omega) (by omega) rfl ?_
          refine g_iload_n (q := 59) dX0_strength_58 rfl rfl ?_
          refine g_aald (t0 := 5) (q := 60) dX0_strength_59 (hD.2.2.1 s (by omega) (by omega)) rfl rfl (by omega) (by omega) rfl ?_
          refine g_iload_n (q := 61) dX0_strength_60 rfl rfl ?_
          refine g_iald (q := 62) dX0_strength_61 (hD.2.2.2 s a (by omega) (by omega) (by omega) (by omega)) (by omega) (by omega) rfl ?_
          rw [xl_in (hs := hs) (s := s) (a := a) (b := b) (by omega) (by split <;> omega)]
          exact g_iret dX0_strength_62 rfl (by first | exact ⟨_, rfl, congrArg vI (if_pos ⟨c4, c12, by rw [if_pos c17]; exact c29⟩).symm, hX⟩ | exact ⟨_, rfl, congrArg vI (if_pos ⟨c4, c12, by rw [if_neg c17]; exact c40⟩).symm, hX⟩)
        · refine g_goto (t := 43) dX0_strength_32 (by decide) ?_
          refine g_bipush (q := 45) dX0_strength_43 rfl ?_
          exact g_iret dX0_strength_45 rfl (by first | exact ⟨_, rfl, congrArg vI (if_neg (fun q => by have q2 := q.2.2; rw [if_pos c17] at q2; exact c29 q2)).symm, hX⟩ | exact ⟨_, rfl, congrArg vI (if_neg (fun q => by have q2 := q.2.2; rw [if_neg c17] at q2; exact c40 q2)).symm, hX⟩ | exact ⟨_, rfl, congrArg vI (if_neg (fun q => c12 q.2.1)).symm, hX⟩ | exact ⟨_, rfl, congrArg vI (if_neg (fun q => c4 q.1)).symm, hX⟩)
theorem c_linksX (hX : (XR E x mf ow h w hs si lo bk uW uH uB iL iS tp td fk fp my wd uN)) (hh : HSok B hs) (h1 : in32 s) :
    CALL E iX0_links (d + 2) 0 0 [.ref x, vI s] h (qP fun o k => o = vI (if 0 ≤ s ∧ s ≤ 3 then mLinks hs s else -2) ∧ (XR E x mf ow k w hs si lo bk uW uH uB iL iS tp td fk fp my wd uN)) := by
  obtain ⟨x1, x2, ⟨w3, bl, tq, pl, bp, hC, -⟩, ⟨t, s1, s2, s3, s4, s5⟩, x5, x6, x7⟩ := id hX
  obtain ⟨h1', e1, t1, o1, b1, eh⟩ := s5.2.self
  have z : ∀ s, 0 ≤ s ∧ s < 4 → CALL E iX3_linkMany (d + 1) 0 0 [.ref (x + 2 + 14), vI s] h (qR (vI (mLinks hs s)) h) := fun s hs0 => by
    have z := c_linkMany (E := E) (d := d + 1) (p := x + 2 + 14) (tx := some t) (G := h) (ak := akO h1' e1 t1 o1 b1) (s := s) hs0 hh
    rw [← eh] at z
    exact z
  show GO E iX0_links _ _ _ 0 [some (.ref x), some (vI s)] [] _ _
  refine g_iload_n (q := 1) dX0_links_0 rfl rfl ?_
  refine g_cs (I' := iX0_isSort) (mc := 0) (ms := 0) (rc := 0) (rs := 0) (q := 4) dX0_links_1 q1158 q1159 gcX0_isSort (c_isSortX h1) rfl rfl ?_
  refine g_ifeqB (t := 21) (q := 7) dX0_links_4 (by decide) rfl (fun c4 => ?_) (fun c4 => ?_)
  · refine g_bipush (q := 23) dX0_links_21 rfl ?_
    exact g_iret dX0_links_23 rfl (by first | exact ⟨_, rfl, congrArg vI (if_pos c4).symm, hX⟩ | exact ⟨_, rfl, congrArg vI (if_neg c4).symm, hX⟩)
  · refine g_aload_n (q := 8) dX0_links_7 rfl rfl ?_
    refine g_get (C := RX0) (T := TX0) (ci := 0) (k := 1) (q := 11) dX0_links_8 q519 rfl in_X0 (by decide) hC rfl rfl ?_
    refine g_getN (C := RX1) (T := TX1) (ci := 1) (k := 4) (q := 14) dX0_links_11 q486 rfl in_X1 (by decide) s1.2.1 rfl rfl ?_
    refine g_iload_n (q := 15) dX0_links_14 rfl rfl ?_
    refine g_cv (I' := iX3_linkMany) (mc := 0) (ms := 0) (rc := 0) (rs := 0) (ci := 4) (q := 18) dX0_links_15 q1170 q1171 rfl q1172 gcX3_linkMany s5.2.ob (z s (by omega)) rfl rfl ?_
    refine g_goto (t := 23) dX0_links_18 (by decide) ?_
    exact g_iret dX0_links_23 rfl (by first | exact ⟨_, rfl, congrArg vI (if_pos c4).symm, hX⟩ | exact ⟨_, rfl, congrArg vI (if_neg c4).symm, hX⟩)
theorem c_supN (hX : (XR E x mf ow h w hs si lo bk uW uH uB iL iS tp td fk fp my wd uN)) (hw : WFw w) (hh : HSok B hs) (hr : 0 ≤ r) (hr1 : r < w 2) (hR : ROWc E (imm ow) h.1 w r ra) (hi : 0 ≤ i) (hi1 : i < w (34 + 14 * r)) : CALL E iX3_support d 0 0 [.ref (x + 2 + 14), .ref ra, vI i, vI (-1)] h (qR (vI (mSup w hs r i)) h) := by
  obtain ⟨x1, x2, x3, ⟨t, s1, s2, s3, s4, s5⟩, x5, x6, x7⟩ := hX
  obtain ⟨h1, e1, t1, o1, b1, eh⟩ := s5.2.self
  have z := c_supportX (d := d) (kl := -1) (kn := 0) (h1 := h1) (e1 := e1) (t1 := t1) (o1 := o1) (b1 := b1) (wo := -1) ((s2 0).av (s5.1.av (by decide))) hw hh hr hr1 (hR.av (s5.1.av (by decide))) hi hi1 (by decide)
  rw [woW_n, ← eh] at z
  exact z
theorem c_supportPX (hX : (XR E x mf ow h w hs si lo bk uW uH uB iL iS tp td fk fp my wd uN)) (hw : WFw w) (hh : HSok B hs) (h1 : in32 r) (h2 : in32 i) :
    CALL E iX0_support (d + 4) 0 0 [.ref x, vI r, vI i] h (qP fun o k => o = vI (if (0 ≤ r ∧ r ≤ w 2 - 1) ∧ (0 ≤ i ∧ i ≤ w (34 + 14 * r) - 1) then mSup w hs r i else -2) ∧ (XR E x mf ow k w hs si lo bk uW uH uB iL iS tp td fk fp my wd uN)) := by
  obtain ⟨x1, x2, ⟨w3, bl, tq, pl, bp, hC, -⟩, ⟨t, s1, s2, s3, s4, s5⟩, x5, x6, x7⟩ := id hX
  have q3 := h2.1
  have q4 := h2.2
  have hw2 := hw.2.1
  show GO E iX0_support _ _ _ 0 [some (.ref x), some (vI r), some (vI i)] [] _ _
  refine g_aload_n (q := 1) dX0_support_0 rfl rfl ?_
  refine g_iload_n (q := 2) dX0_support_1 rfl rfl ?_
  refine g_cv (I' := iX0_isRow) (mc := 0) (ms := 0) (rc := 0) (rs := 0) (ci := 0) (q := 5) dX0_support_2 q983 q985 rfl qs26 gcX0_isRow hC (GO.deep (c_isRowX (d := 0) hX h1 ⟨hw.2.1.1, hw.2.1.2⟩) (by omega)) rfl rfl ?_
  refine g_ifeqB (t := 46) (q := 8) dX0_support_5 (by decide) rfl (fun c5 => ?_) (fun c5 => ?_)
  · refine g_bipush (q := 48) dX0_support_46 rfl ?_
    exact g_iret dX0_support_48 rfl (by first | exact ⟨_, rfl, congrArg vI (if_pos ⟨c5, c23⟩).symm, hX⟩ | exact ⟨_, rfl, congrArg vI (if_neg (fun q => c23 q.2)).symm, hX⟩ | exact ⟨_, rfl, congrArg vI (if_neg (fun q => c5 q.1)).symm, hX⟩)
  · refine g_iload_n (q := 9) dX0_support_8 rfl rfl ?_
    refine g_i2l (q := 10) dX0_support_9 (by first | assumption | exact in32_gB | exact in32_gCmp | (unfold in32; omega)) rfl ?_
    refine g_lconst0 (q := 11) dX0_support_10 rfl ?_
    refine g_aload_n (q := 12) dX0_support_11 rfl rfl ?_
    refine g_iload_n (q := 13) dX0_support_12 rfl rfl ?_
    refine g_cvP (I' := iX0_rowAt) (mc := 0) (ms := 0) (rc := 0) (rs := 0) (ci := 0) (q := 16) dX0_support_13 q992 q994 rfl qs28 gcX0_rowAt hC (c_rowAt hX (by omega) (by omega)) rfl rfl (fun v13 k13 z13 => ?_)
    obtain ⟨ra, rfl, hR, rfl⟩ := z13
    obtain ⟨-, g, hg1, hg2⟩ := id hR
    have hrw := hw.row (r := r) (by omega) (by omega)
    have en : (((w (34 + 14 * r)).toNat : Nat) : Int) = w (34 + 14 * r) := Int.toNat_of_nonneg (by omega)
    refine g_alen 0 (q := 17) dX0_support_16 hg1 rfl rfl rfl ?_
    rw [en]
    refine g_iconst (q := 18) dX0_support_17 rfl ?_
    refine g_isub (q := 19) dX0_support_18 rfl ?_
    refine g_i2l (q := 20) dX0_support_19 (by first | assumption | exact in32_gB | exact in32_gCmp | (unfold in32; omega)) rfl ?_
    refine g_cs (I' := iX0_in) (mc := 0) (ms := 0) (rc := 0) (rs := 0) (q := 23) dX0_support_20 q130 q131 gcX0_in (GO.deep (c_inX (d := 0) (by unfold in64; omega) (by unfold in64; omega) (by unfold in64; omega)) (by omega)) rfl rfl ?_
    refine g_ifeqB (t := 46) (q := 26) dX0_support_23 (by decide) rfl (fun c23 => ?_) (fun c23 => ?_)
    · refine g_bipush (q := 48) dX0_support_46 rfl ?_
      exact g_iret dX0_support_48 rfl (by first | exact ⟨_, rfl, congrArg vI (if_pos ⟨c5, c23⟩).symm, hX⟩ | exact ⟨_, rfl, congrArg vI (if_neg (fun q => c23 q.2)).symm, hX⟩ | exact ⟨_, rfl, congrArg vI (if_neg (fun q => c5 q.1)).symm, hX⟩)
    · refine g_aload_n (q := 27) dX0_support_26 rfl rfl ?_
      refine g_get (C := RX0) (T := TX0) (ci := 0) (k := 1) (q := 30) dX0_support_27 q519 rfl in_X0 (by decide) hC rfl rfl ?_
      refine g_getN (C := RX1) (T := TX1) (ci := 1) (k := 4) (q := 33) dX0_support_30 q486 rfl in_X1 (by decide) s1.2.1 rfl rfl ?_
      refine g_aload_n (q := 34) dX0_support_33 rfl rfl ?_
      refine g_iload_n (q := 35) dX0_support_34 rfl rfl ?_
      refine g_cvP (I' := iX0_rowAt) (mc := 0) (ms := 0) (rc := 0) (rs := 0) (ci := 0) (q := 38) dX0_support_35 q992 q994 rfl qs28 gcX0_rowAt hC (c_rowAt hX (by omega) (by omega)) rfl rfl (fun v35 k35 z35 => ?_)
      obtain ⟨ra2, rfl, hR2, rfl⟩ := z35
      refine g_iload_n (q := 39) dX0_support_38 rfl rfl ?_
      refine g_iconst (q := 40) dX0_support_39 rfl ?_
      refine g_cv (I' := iX3_support) (mc := 0) (ms := 0) (rc := 0) (rs := 0) (ci := 4) (q := 43) dX0_support_40 q1178 q1004 rfl q1005 gcX3_support s5.2.ob (c_supN hX hw hh (by omega) (by omega) hR2 (by omega) (by omega)) rfl rfl ?_
      refine g_goto (t := 48) dX0_support_43 (by decide) ?_
      exact g_iret dX0_support_48 rfl (by first | exact ⟨_, rfl, congrArg vI (if_pos ⟨c5, c23⟩).symm, hX⟩ | exact ⟨_, rfl, congrArg vI (if_neg (fun q => c23 q.2)).symm, hX⟩ | exact ⟨_, rfl, congrArg vI (if_neg (fun q => c5 q.1)).symm, hX⟩)
theorem c_slipsPX (hX : (XR E x mf ow h w hs si lo bk uW uH uB iL iS tp td fk fp my wd uN)) (hw : WFw w) (hh : HSok B hs) (h1 : in32 r) :
    CALL E iX0_slips (d + 4) 0 0 [.ref x, vI r] h (qP fun o k => o = vI (if 0 ≤ r ∧ r ≤ w 2 - 1 then mSlips w hs r else -2) ∧ (XR E x mf ow k w hs si lo bk uW uH uB iL iS tp td fk fp my wd uN)) := by
  obtain ⟨x1, x2, ⟨w3, bl, tq, pl, bp, hC, -⟩, ⟨t, s1, s2, s3, s4, s5⟩, x5, x6, x7⟩ := id hX
  show GO E iX0_slips _ _ _ 0 [some (.ref x), some (vI r)] [] _ _
  refine g_aload_n (q := 1) dX0_slips_0 rfl rfl ?_
  refine g_iload_n (q := 2) dX0_slips_1 rfl rfl ?_
  refine g_cv (I' := iX0_isRow) (mc := 0) (ms := 0) (rc := 0) (rs := 0) (ci := 0) (q := 5) dX0_slips_2 q983 q985 rfl qs26 gcX0_isRow hC (GO.deep (c_isRowX (d := 0) hX h1 ⟨hw.2.1.1, hw.2.1.2⟩) (by omega)) rfl rfl ?_
  refine g_ifeqB (t := 27) (q := 8) dX0_slips_5 (by decide) rfl (fun c5 => ?_) (fun c5 => ?_)
  · refine g_bipush (q := 29) dX0_slips_27 rfl ?_
    exact g_iret dX0_slips_29 rfl (by first | exact ⟨_, rfl, congrArg vI (if_pos c5).symm, hX⟩ | exact ⟨_, rfl, congrArg vI (if_neg c5).symm, hX⟩)
  · refine g_aload_n (q := 9) dX0_slips_8 rfl rfl ?_
    refine g_get (C := RX0) (T := TX0) (ci := 0) (k := 1) (q := 12) dX0_slips_9 q519 rfl in_X0 (by decide) hC rfl rfl ?_
    refine g_getN (C := RX1) (T := TX1) (ci := 1) (k := 4) (q := 15) dX0_slips_12 q486 rfl in_X1 (by decide) s1.2.1 rfl rfl ?_
    refine g_aload_n (q := 16) dX0_slips_15 rfl rfl ?_
    refine g_iload_n (q := 17) dX0_slips_16 rfl rfl ?_
    refine g_cvP (I' := iX0_rowAt) (mc := 0) (ms := 0) (rc := 0) (rs := 0) (ci := 0) (q := 20) dX0_slips_17 q992 q994 rfl qs28 gcX0_rowAt hC (c_rowAt hX (by omega) (by omega)) rfl rfl (fun v17 k17 z17 => ?_)
    obtain ⟨ra2, rfl, hR2, rfl⟩ := z17
    refine g_iconst (q := 21) dX0_slips_20 rfl ?_
    refine g_cv (I' := iX3_slips) (mc := 0) (ms := 0) (rc := 0) (rs := 0) (ci := 4) (q := 24) dX0_slips_21 q999 q1000 rfl q1001 gcX3_slips s5.2.ob (GO.deep (c_slipsN (d := 0) hX hw hh (by omega) (by omega) hR2) (by omega)) rfl rfl ?_
    refine g_goto (t := 29) dX0_slips_24 (by decide) ?_
    exact g_iret dX0_slips_29 rfl (by first | exact ⟨_, rfl, congrArg vI (if_pos c5).symm, hX⟩ | exact ⟨_, rfl, congrArg vI (if_neg c5).symm, hX⟩)
theorem c_thingX (hX : (XR E x mf ow h w hs si lo bk uW uH uB iL iS tp td fk fp my wd uN)) (hw : WFw w) (h1 : in32 r) (h2 : in32 i) :
    CALL E iX0_thing (d + 4) 0 0 [.ref x, vI r, vI i] h (qP fun o k => o = vI (if ¬ (0 ≤ r ∧ r ≤ w 2 - 1) then -2 else if 0 ≤ i ∧ i ≤ w (34 + 14 * r) - 1 then w (34 + 14 * r + 1 + i) else -1) ∧ (XR E x mf ow k w hs si lo bk uW uH uB iL iS tp td fk fp my wd uN)) := by
  obtain ⟨x1, x2, ⟨w3, bl, tq, pl, bp, hC, -⟩, ⟨t, s1, s2, s3, s4, s5⟩, x5, x6, x7⟩ := id hX
  have q3 := h2.1
  have q4 := h2.2
  show GO E iX0_thing _ _ _ 0 [some (.ref x), some (vI r), some (vI i)] [] _ _
  refine g_aload_n (q := 1) dX0_thing_0 rfl rfl ?_
  refine g_iload_n (q := 2) dX0_thing_1 rfl rfl ?_
  refine g_cv (I' := iX0_isRow) (mc := 0) (ms := 0) (rc := 0) (rs := 0) (ci := 0) (q := 5) dX0_thing_2 q983 q985 rfl qs26 gcX0_isRow hC (GO.deep (c_isRowX (d := 0) hX h1 ⟨hw.2.1.1, hw.2.1.2⟩) (by omega)) rfl rfl ?_
  refine g_ifneB (t := 11) (q := 8) dX0_thing_5 (by decide) rfl (fun c5 => ?_) (fun c5 => ?_)
  · refine g_iload_n (q := 12) dX0_thing_11 rfl rfl ?_
    refine g_i2l (q := 13) dX0_thing_12 (by first | assumption | exact in32_gB | exact in32_gCmp | (unfold in32; omega)) rfl ?_
    refine g_lconst0 (q := 14) dX0_thing_13 rfl ?_
    refine g_aload_n (q := 15) dX0_thing_14 rfl rfl ?_
    refine g_iload_n (q := 16) dX0_thing_15 rfl rfl ?_
    refine g_cvP (I' := iX0_rowAt) (mc := 0) (ms := 0) (rc := 0) (rs := 0) (ci := 0) (q := 19) dX0_thing_16 q992 q994 rfl qs28 gcX0_rowAt hC (c_rowAt hX (by omega) (by omega)) rfl rfl (fun v16 k16 z16 => ?_)
    obtain ⟨ra, rfl, hR, rfl⟩ := z16
    obtain ⟨-, g, hg1, hg2⟩ := id hR
    have hrw := hw.row (r := r) (by omega) (by omega)
    have en : (((w (34 + 14 * r)).toNat : Nat) : Int) = w (34 + 14 * r) := Int.toNat_of_nonneg (by omega)
    rw [if_neg (not_not_intro c5)]
    refine g_alen 0 (q := 20) dX0_thing_19 hg1 rfl rfl rfl ?_
    rw [en]
    refine g_iconst (q := 21) dX0_thing_20 rfl ?_
    refine g_isub (q := 22) dX0_thing_21 rfl ?_
    refine g_i2l (q := 23) dX0_thing_22 (by first | assumption | exact in32_gB | exact in32_gCmp | (unfold in32; omega)) rfl ?_
    refine g_cs (I' := iX0_in) (mc := 0) (ms := 0) (rc := 0) (rs := 0) (q := 26) dX0_thing_23 q130 q131 gcX0_in (GO.deep (c_inX (d := 0) (by unfold in64; omega) (by unfold in64; omega) (by unfold in64; omega)) (by omega)) rfl rfl ?_
    refine g_ifeqB (t := 39) (q := 29) dX0_thing_26 (by decide) rfl (fun c26 => ?_) (fun c26 => ?_)
    · refine g_iconst (q := 40) dX0_thing_39 rfl ?_
      exact g_iret dX0_thing_40 rfl (by first | exact ⟨_, rfl, congrArg vI (if_pos c26).symm, hX⟩ | exact ⟨_, rfl, congrArg vI (if_neg c26).symm, hX⟩)
    · refine g_aload_n (q := 30) dX0_thing_29 rfl rfl ?_
      refine g_iload_n (q := 31) dX0_thing_30 rfl rfl ?_
      refine g_cvP (I' := iX0_rowAt) (mc := 0) (ms := 0) (rc := 0) (rs := 0) (ci := 0) (q := 34) dX0_thing_31 q992 q994 rfl qs28 gcX0_rowAt hC (c_rowAt hX (by omega) (by omega)) rfl rfl (fun v31 k31 z31 => ?_)
      obtain ⟨ra2, rfl, hR2, rfl⟩ := z31
      obtain ⟨-, g2, hg21, hg22⟩ := hR2
      refine g_iload_n (q := 35) dX0_thing_34 rfl rfl ?_
      refine g_iald (q := 36) dX0_thing_35 hg21 (by omega) (by omega) rfl ?_
      rw [hg22 _ (by omega) (by omega)]
      refine g_goto (t := 40) dX0_thing_36 (by decide) ?_
      exact g_iret dX0_thing_40 rfl (by first | exact ⟨_, rfl, congrArg vI (if_pos c26).symm, hX⟩ | exact ⟨_, rfl, congrArg vI (if_neg c26).symm, hX⟩)
  · refine g_bipush (q := 10) dX0_thing_8 rfl ?_
    exact g_iret dX0_thing_10 rfl ⟨_, rfl, congrArg vI (if_pos c5).symm, hX⟩
theorem c_usedX (hX : (XR E x mf ow h w hs si lo bk uW uH uB iL iS tp td fk fp my wd uN)) (hw : WFw w) (h1 : in32 r) :
    CALL E iX0_used (d + 2) 0 0 [.ref x, vI r] h (qP fun o k => o = vI (if 0 ≤ r ∧ r ≤ w 2 - 1 then w (34 + 14 * r + 1 + 12) else -2) ∧ (XR E x mf ow k w hs si lo bk uW uH uB iL iS tp td fk fp my wd uN)) := by
  obtain ⟨x1, x2, ⟨w3, bl, tq, pl, bp, hC, -⟩, ⟨t, ⟨s10, s11, gu, hu, hgu⟩, s2, s3, s4, s5⟩, x5, x6, x7⟩ := id hX
  have hw2 := hw.2.1
  show GO E iX0_used _ _ _ 0 [some (.ref x), some (vI r)] [] _ _
  refine g_aload_n (q := 1) dX0_used_0 rfl rfl ?_
  refine g_iload_n (q := 2) dX0_used_1 rfl rfl ?_
  refine g_cv (I' := iX0_isRow) (mc := 0) (ms := 0) (rc := 0) (rs := 0) (ci := 0) (q := 5) dX0_used_2 q983 q985 rfl qs26 gcX0_isRow hC (GO.deep (c_isRowX (d := 0) hX h1 ⟨hw.2.1.1, hw.2.1.2⟩) (by omega)) rfl rfl ?_
  refine g_ifeqB (t := 20) (q := 8) dX0_used_5 (by decide) rfl (fun c5 => ?_) (fun c5 => ?_)
  · refine g_bipush (q := 22) dX0_used_20 rfl ?_
    exact g_iret dX0_used_22 rfl (by first | exact ⟨_, rfl, congrArg vI (if_pos c5).symm, hX⟩ | exact ⟨_, rfl, congrArg vI (if_neg c5).symm, hX⟩)
  · refine g_aload_n (q := 9) dX0_used_8 rfl rfl ?_
    refine g_get (C := RX0) (T := TX0) (ci := 0) (k := 1) (q := 12) dX0_used_9 q519 rfl in_X0 (by decide) hC rfl rfl ?_
    refine g_getN (C := RX1) (T := TX1) (ci := 1) (k := 3) (q := 15) dX0_used_12 q484 rfl in_X1 (by decide) s11 rfl rfl ?_
    refine g_iload_n (q := 16) dX0_used_15 rfl rfl ?_
    refine g_iald (q := 17) dX0_used_16 hu (by omega) (by omega) rfl ?_
    rw [hgu r (by omega) (by omega), if_pos (by omega)]
    refine g_goto (t := 22) dX0_used_17 (by decide) ?_
    exact g_iret dX0_used_22 rfl (by first | exact ⟨_, rfl, congrArg vI (if_pos c5).symm, hX⟩ | exact ⟨_, rfl, congrArg vI (if_neg c5).symm, hX⟩)
theorem c_faultX (hX : (XR E x mf ow h w hs si lo bk uW uH uB iL iS tp td fk fp my wd uN)) (hv : in32 v) :
    CALL E iX0_fault d 0 0 [.ref x, vI v] h (qP fun o k => o = vI (if v = 0 then fk else if v = 1 then fp else -1) ∧ (XR E x mf ow k w hs si lo bk uW uH uB iL iS tp td fk fp my wd uN)) := by
  obtain ⟨x1, x2, ⟨w3, bl, tq, pl, bp, hC, -⟩, -⟩ := id hX
  show GO E iX0_fault _ _ _ 0 [some (.ref x), some (vI v)] [] _ _
  refine g_iload_n (q := 1) dX0_fault_0 rfl rfl ?_
  refine g_if_ne (t := 11) (q := 4) dX0_fault_1 (by decide) rfl (by first | assumption | exact in32_gB | exact in32_gCmp | (unfold in32; omega)) (fun c1 => ?_) (fun c1 => ?_)
  · refine g_iload_n (q := 12) dX0_fault_11 rfl rfl ?_
    refine g_iconst (q := 13) dX0_fault_12 rfl ?_
    refine g_icmp_ne (t := 23) (q := 16) dX0_fault_13 (by decide) rfl (by first | assumption | exact in32_gB | exact in32_gCmp | (unfold in32; omega)) (by first | assumption | exact in32_gB | exact in32_gCmp | (unfold in32; omega)) (fun c13 => ?_) (fun c13 => ?_)
    · refine g_iconst (q := 24) dX0_fault_23 rfl ?_
      exact g_iret dX0_fault_24 rfl (by first | exact ⟨_, rfl, congrArg vI (if_pos c1).symm, hX⟩ | exact ⟨_, rfl, congrArg vI ((if_neg c1).trans (if_pos c13)).symm, hX⟩ | exact ⟨_, rfl, congrArg vI ((if_neg c1).trans (if_neg c13)).symm, hX⟩)
    · refine g_aload_n (q := 17) dX0_fault_16 rfl rfl ?_
      refine g_get (C := RX0) (T := TX0) (ci := 0) (k := 7) (q := 20) dX0_fault_17 q525 rfl in_X0 (by decide) hC rfl rfl ?_
      refine g_goto (t := 24) dX0_fault_20 (by decide) ?_
      exact g_iret dX0_fault_24 rfl (by first | exact ⟨_, rfl, congrArg vI (if_pos c1).symm, hX⟩ | exact ⟨_, rfl, congrArg vI ((if_neg c1).trans (if_pos c13)).symm, hX⟩ | exact ⟨_, rfl, congrArg vI ((if_neg c1).trans (if_neg c13)).symm, hX⟩)
  · refine g_aload_n (q := 5) dX0_fault_4 rfl rfl ?_
    refine g_get (C := RX0) (T := TX0) (ci := 0) (k := 6) (q := 8) dX0_fault_5 q524 rfl in_X0 (by decide) hC rfl rfl ?_
    refine g_goto (t := 24) dX0_fault_8 (by decide) ?_
    exact g_iret dX0_fault_24 rfl (by first | exact ⟨_, rfl, congrArg vI (if_pos c1).symm, hX⟩ | exact ⟨_, rfl, congrArg vI ((if_neg c1).trans (if_pos c13)).symm, hX⟩ | exact ⟨_, rfl, congrArg vI ((if_neg c1).trans (if_neg c13)).symm, hX⟩)
end
