/-! THE COMPONENT: rows shuffled -/
set_option maxRecDepth 100000
section
variable {E : gE} {d rc rs x : Nat} {mf : Nat → va_E} {ow : OW} {h : gH} {w hs bk tp iL iS my wd : Int → Int} {uW uH uB uN : Int → Int → Int} {si lo td fk fp : Int}
variable {r v n B kn i s l c b e m k : Int} {ra t p : Nat} {h' : gH} {ow' : OW} {Q : Outcome → gH → Prop} {g md g' : Int → Int}
theorem l_shX1 (hk : v = 1 ∨ v = 2 ∨ v = 3) (hm : 2 ≤ m ∧ m ≤ 12) (hg2 : ∀ j, 0 ≤ j → j < m → g' j = w (34 + 14 * r + 1 + j)) (hra : ra ≠ h.2) (hc : h.1 ra = some (aI E m.toNat g')) (hk6 : 0 ≤ k ∧ k ≤ 4) :
    ∀ (f : Nat) (i n : Int) (g : Int → Int), 0 ≤ i → 0 ≤ n → m - i ≤ f → i ≤ 20 → (i < m → n + (m - i + v) / (v + 1) ≤ m) →
    (∀ x7 : Option Value, GO E iX0_shuffled (d + 8) 1 200 81 [some (.ref x), some (vI r), some (vI v), some (.ref ra), some (.ref h.2), some (vI (shfI w r (v + 1) m (f + 1) i (n, g)).1), some (vI k), x7] [] (hnew h (aI E m.toNat (shfI w r (v + 1) m (f + 1) i (n, g)).2)) Q) →
    GO E iX0_shuffled (d + 8) 1 200 51 [some (.ref x), some (vI r), some (vI v), some (.ref ra), some (.ref h.2), some (vI n), some (vI k), some (vI i)] [] (hnew h (aI E m.toNat g)) Q := by
  have en : ((m.toNat : Nat) : Int) = m := Int.toNat_of_nonneg (by omega)
  intro f
  induction f with
  | zero =>
    intro i n g h0 h1 h2 h3 h4 kk
    unfold shfI at kk
    rw [if_neg (by omega)] at kk
    refine g_iload (q := 53) dX0_shuffled_51 rfl rfl ?_
    refine g_aload_n (q := 54) dX0_shuffled_53 rfl rfl ?_
    refine g_alen 0 (q := 55) dX0_shuffled_54 ((hnew_ne hra).trans hc) rfl rfl rfl ?_
    rw [en]
    refine g_icmp_ge (t := 81) (q := 58) dX0_shuffled_55 (by decide) rfl (by first | assumption | exact in32_gB | exact in32_gCmp | (unfold in32; omega)) (by first | assumption | exact in32_gB | exact in32_gCmp | (unfold in32; omega)) (fun c55 => ?_) (fun c55 => ?_)
    · exact kk _
    · exact absurd c55 (by omega)
  | succ f ih =>
    intro i n g h0 h1 h2 h3 h4 kk
    unfold shfI at kk
    by_cases z : i < m
    · rw [if_pos z] at kk
      have h5 := h4 z
      have hn : n + 1 ≤ m := by rcases hk with rfl | rfl | rfl <;> omega
      refine g_iload (q := 53) dX0_shuffled_51 rfl rfl ?_
      refine g_aload_n (q := 54) dX0_shuffled_53 rfl rfl ?_
      refine g_alen 0 (q := 55) dX0_shuffled_54 ((hnew_ne hra).trans hc) rfl rfl rfl ?_
      rw [en]
      refine g_icmp_ge (t := 81) (q := 58) dX0_shuffled_55 (by decide) rfl (by first | assumption | exact in32_gB | exact in32_gCmp | (unfold in32; omega)) (by first | assumption | exact in32_gB | exact in32_gCmp | (unfold in32; omega)) (fun c55 => ?_) (fun c55 => ?_)
      · exact absurd c55 (by omega)
      · refine g_aload (q := 60) dX0_shuffled_58 rfl rfl ?_
        refine g_iload (q := 62) dX0_shuffled_60 rfl rfl ?_
        refine g_aload_n (q := 63) dX0_shuffled_62 rfl rfl ?_
        refine g_iload (q := 65) dX0_shuffled_63 rfl rfl ?_
        refine g_iald (q := 66) dX0_shuffled_65 ((hnew_ne hra).trans hc) (by omega) (by omega) rfl ?_
        rw [hg2 _ (by omega) (by omega)]
        refine g_iast (q := 67) dX0_shuffled_66 hnew_at (by omega) (by omega)  rfl ?_
        rw [hnew_set]
        refine g_iinc (q := 70) dX0_shuffled_67 rfl gs5 rfl ?_
        refine g_iload (q := 72) dX0_shuffled_70 rfl rfl ?_
        refine g_iload_n (q := 73) dX0_shuffled_72 rfl rfl ?_
        refine g_iconst (q := 74) dX0_shuffled_73 rfl ?_
        refine g_iadd (q := 75) dX0_shuffled_74 rfl ?_
        refine g_iadd (q := 76) dX0_shuffled_75 rfl ?_
        refine g_istore (q := 78) dX0_shuffled_76 gs7 rfl ?_
        refine g_goto (t := 51) dX0_shuffled_78 (by decide) ?_
        exact ih _ _ _ (by omega) (by omega) (by omega) (by omega) (fun q => by rcases hk with rfl | rfl | rfl <;> omega) kk
    · rw [if_neg z] at kk
      refine g_iload (q := 53) dX0_shuffled_51 rfl rfl ?_
      refine g_aload_n (q := 54) dX0_shuffled_53 rfl rfl ?_
      refine g_alen 0 (q := 55) dX0_shuffled_54 ((hnew_ne hra).trans hc) rfl rfl rfl ?_
      rw [en]
      refine g_icmp_ge (t := 81) (q := 58) dX0_shuffled_55 (by decide) rfl (by first | assumption | exact in32_gB | exact in32_gCmp | (unfold in32; omega)) (by first | assumption | exact in32_gB | exact in32_gCmp | (unfold in32; omega)) (fun c55 => ?_) (fun c55 => ?_)
      · exact kk _
      · exact absurd c55 (by omega)
theorem c_shuffledX (hX : (XR E x mf ow h w hs si lo bk uW uH uB iL iS tp td fk fp my wd uN)) (hw : WFw w) (hw9 : 0 ≤ w 9 ∧ w 9 ≤ w 2) (h1 : in32 r) (h2 : in32 v) (md : Int → Int) :
    CALL E iX0_shuffled (d + 8) 2 212 [.ref x, vI r, vI v] h (qP fun o k => o = vI (if ¬ ((0 ≤ r ∧ r ≤ w 2 - 1) ∧ (1 ≤ v ∧ v ≤ 3)) then -2 else if w 2 = 12 then -3 else w 2) ∧ ∃ ow', (XR E x mf ow' k (if ((0 ≤ r ∧ r ≤ w 2 - 1) ∧ (1 ≤ v ∧ v ≤ 3)) ∧ ¬ w 2 = 12 then mkW w (shfO w r (v + 1) (w (34 + 14 * r)) (v + 1).toNat 0 (0, md)).1 (shfO w r (v + 1) (w (34 + 14 * r)) (v + 1).toNat 0 (0, md)).2 else w) hs si lo bk uW uH uB iL iS tp td fk fp my wd uN)) := by
  obtain ⟨x1, x2, ⟨w3, bl, tq, pl, bp, hC, -⟩, -⟩ := id hX
  have h3 := h2.1
  have h4 := h2.2
  by_cases z : (0 ≤ r ∧ r ≤ w 2 - 1) ∧ (1 ≤ v ∧ v ≤ 3)
  · rw [if_neg (not_not_intro z)]
    have hr : 0 ≤ r := z.1.1
    have hr1 : r < w 2 := by omega
    have hrw := hw.row hr hr1
    have hk : v = 1 ∨ v = 2 ∨ v = 3 := by omega
    generalize em : w (34 + 14 * r) = m at *
    have en : ((m.toNat : Nat) : Int) = m := Int.toNat_of_nonneg (by omega)
    have fin : ∀ (P : Int × (Int → Int)), P.1 = m → (∀ j, 0 ≤ j → j < m → (shfO w r (v + 1) m (v + 1).toNat 0 (0, md)).2 j = P.2 j) → (shfO w r (v + 1) m (v + 1).toNat 0 (0, md)).1 = m → CALL E iX0_adds (d + 7) 1 200 [.ref x, .ref h.2] (hnew h (aI E m.toNat P.2)) (qP fun o k => o = vI (if w 2 = 12 then -3 else w 2) ∧ ∃ ow', (XR E x mf ow' k (if ((0 ≤ r ∧ r ≤ w 2 - 1) ∧ (1 ≤ v ∧ v ≤ 3)) ∧ ¬ w 2 = 12 then mkW w (shfO w r (v + 1) m (v + 1).toNat 0 (0, md)).1 (shfO w r (v + 1) m (v + 1).toNat 0 (0, md)).2 else w) hs si lo bk uW uH uB iL iS tp td fk fp my wd uN)) := by
      intro P e1 e2 e3
      have q := c_addsX (d := d) (ra := h.2) (n := m) (gr := P.2) (md := (shfO w r (v + 1) m (v + 1).toNat 0 (0, md)).2) (hX.fresh (g := P.2) (N := m.toNat)) hw hw9 hnew_at upO_at (by omega) e2
      rw [e3]
      refine GO.mono q fun o k hq => ?_
      obtain ⟨v', e1, e2, ow2, hX2⟩ := hq
      refine ⟨v', e1, e2, ow2, ?_⟩
      by_cases c12 : w 2 = 12
      · rw [if_pos c12] at hX2; rw [if_neg (fun q => q.2 c12)]; exact hX2
      · rw [if_neg c12] at hX2; rw [if_pos ⟨z, c12⟩]; exact hX2
    have loop : ∀ (ra : Nat) (g' : Int → Int), ra ≠ h.2 → h.1 ra = some (aI E m.toNat g') → (∀ j, 0 ≤ j → j < m → g' j = w (34 + 14 * r + 1 + j)) → ∀ (f F : Nat) (k n : Int) (g : Int → Int) (x7 : Option Value), k = F → (F : Int) + f = v + 1 → n = cntS v m F → shfO w r (v + 1) m f k (n, g) = shfO w r (v + 1) m (v + 1).toNat 0 (0, fun _ => 0) →
        GO E iX0_shuffled (d + 8) 1 200 41 [some (.ref x), some (vI r), some (vI v), some (.ref ra), some (.ref h.2), some (vI n), some (vI k), x7] [] (hnew h (aI E m.toNat g)) (qP fun o k => o = vI (if w 2 = 12 then -3 else w 2) ∧ ∃ ow', (XR E x mf ow' k (if ((0 ≤ r ∧ r ≤ w 2 - 1) ∧ (1 ≤ v ∧ v ≤ 3)) ∧ ¬ w 2 = 12 then mkW w (shfO w r (v + 1) m (v + 1).toNat 0 (0, md)).1 (shfO w r (v + 1) m (v + 1).toNat 0 (0, md)).2 else w) hs si lo bk uW uH uB iL iS tp td fk fp my wd uN)) := by
      intro ra g' hra hc hg f
      induction f with
      | zero =>
        intro F k n g x7 e0 e1 e2 e3
        have hcn := (cntS_m hk hrw.1 (F := F) (by omega)).2.2 (by omega)
        have hcc := shfO_c (w := w) (r := r) (q := v + 1) (m := m) (v + 1).toNat 0 0 (fun _ => 0) md (by omega) (fun j j1 j2 => absurd j2 (by omega))
        have e4 : (n, g) = shfO w r (v + 1) m (v + 1).toNat 0 (0, fun _ => 0) := e3
        rw [← e4] at hcc
        have hlt := x1 _ _ hC
        have hfin := fin (n, g) (by show n = m; omega) (fun j j1 j2 => (hcc.2 j j1 (by show j < n; omega)).symm) (by rw [← hcc.1]; show n = m; omega)
        refine g_iload (q := 43) dX0_shuffled_41 rfl rfl ?_
        refine g_iload_n (q := 44) dX0_shuffled_43 rfl rfl ?_
        refine g_icmp_gt (t := 87) (q := 47) dX0_shuffled_44 (by decide) rfl (by first | assumption | exact in32_gB | exact in32_gCmp | (unfold in32; omega)) (by first | assumption | exact in32_gB | exact in32_gCmp | (unfold in32; omega)) (fun c44 => ?_) (fun c44 => ?_)
        · refine g_aload_n (q := 88) dX0_shuffled_87 rfl rfl ?_
          refine g_aload (q := 90) dX0_shuffled_88 rfl rfl ?_
          refine g_cvP (I' := iX0_adds) (mc := 1) (ms := 200) (rc := 0) (rs := 0) (ci := 0) (q := 93) dX0_shuffled_90 q1334 q1336 rfl qs41 gcX0_adds ((hnew_ne (by omega)).trans hC) (hfin) rfl rfl (fun v90 k90 z90 => ?_)
          obtain ⟨rfl, ow2, hX2⟩ := z90
          exact g_iret dX0_shuffled_93 rfl ⟨_, rfl, rfl, ow2, hX2⟩
        · exact absurd c44 (by omega)
      | succ f ih =>
        intro F k n g x7 e0 e1 e2 e3
        have hc1 := cntS_m hk hrw.1 (F := F) (by omega)
        have hc2 := cntS_m hk hrw.1 (F := F + 1) (by omega)
        have e4 : cntS v m (F + 1) = cntS v m F + (m - F + v) / (v + 1) := rfl
        have e5 := shfI_n (w := w) (r := r) (q := v + 1) (m := m) (by omega) 13 k (n, g) (by omega)
        have e6 : (shfI w r (v + 1) m 13 k (n, g)).1 = cntS v m (F + 1) := by
          rw [e5, e4, e2, e0]
          split
          · show cntS v m F + (m - F + (v + 1 - 1)) / (v + 1) = _
            rw [show v + 1 - 1 = v by omega]
          · show cntS v m F = _
            rcases hk with rfl | rfl | rfl <;> omega
        refine g_iload (q := 43) dX0_shuffled_41 rfl rfl ?_
        refine g_iload_n (q := 44) dX0_shuffled_43 rfl rfl ?_
        refine g_icmp_gt (t := 87) (q := 47) dX0_shuffled_44 (by decide) rfl (by first | assumption | exact in32_gB | exact in32_gCmp | (unfold in32; omega)) (by first | assumption | exact in32_gB | exact in32_gCmp | (unfold in32; omega)) (fun c44 => ?_) (fun c44 => ?_)
        · exact absurd c44 (by omega)
        · refine g_iload (q := 49) dX0_shuffled_47 rfl rfl ?_
          refine g_istore (q := 51) dX0_shuffled_49 gs7 rfl ?_
          refine l_shX1 (d := d) (v := v) hk hrw hg hra hc (by omega) 12 k n g (by omega) (by omega) (by omega) (by omega) (fun q => by rw [e0] at q ⊢; omega) (fun x7' => ?_)
          refine g_iinc (q := 84) dX0_shuffled_81 rfl gs6 rfl ?_
          refine g_goto (t := 41) dX0_shuffled_84 (by decide) ?_
          exact ih (F + 1) (k + 1) _ _ _ (by omega) (by omega) e6 e3
    refine GO.room (rc := 1 + 1) (rs := 200 + m.toNat) ?_ (by omega) (by omega)
    show GO E iX0_shuffled _ _ _ 0 [some (.ref x), some (vI r), some (vI v), none, none, none, none, none] [] _ _
    refine g_aload_n (q := 1) dX0_shuffled_0 rfl rfl ?_
    refine g_iload_n (q := 2) dX0_shuffled_1 rfl rfl ?_
    refine g_cv (I' := iX0_isRow) (mc := 0) (ms := 0) (rc := 2) (rs := (200+m.toNat)) (ci := 0) (q := 5) dX0_shuffled_2 q983 q985 rfl qs26 gcX0_isRow hC (GO.deep (c_isRowX (d := 0) hX h1 ⟨hw.2.1.1, hw.2.1.2⟩) (by omega)) rfl rfl ?_
    refine g_ifeqB (t := 20) (q := 8) dX0_shuffled_5 (by decide) rfl (fun c5 => ?_) (fun c5 => ?_)
    · exact absurd z.1 c5
    · refine g_iload_n (q := 9) dX0_shuffled_8 rfl rfl ?_
      refine g_i2l (q := 10) dX0_shuffled_9 (by first | assumption | exact in32_gB | exact in32_gCmp | (unfold in32; omega)) rfl ?_
      refine g_lconst1 (q := 11) dX0_shuffled_10 rfl ?_
      refine g_ldc2 (a := 3) (q := 14) dX0_shuffled_11 q129 (by decide) rfl ?_
      refine g_cs (I' := iX0_in) (mc := 0) (ms := 0) (rc := 2) (rs := (200+m.toNat)) (q := 17) dX0_shuffled_14 q130 q131 gcX0_in (c_inX (by unfold in64; omega) (by unfold in64; omega) (by unfold in64; omega)) rfl rfl ?_
      refine g_ifneB (t := 23) (q := 20) dX0_shuffled_17 (by decide) rfl (fun c17 => ?_) (fun c17 => ?_)
      · refine g_aload_n (q := 24) dX0_shuffled_23 rfl rfl ?_
        refine g_iload_n (q := 25) dX0_shuffled_24 rfl rfl ?_
        refine g_cvP (I' := iX0_rowAt) (mc := 0) (ms := 0) (rc := 2) (rs := (200+m.toNat)) (ci := 0) (q := 28) dX0_shuffled_25 q992 q994 rfl qs28 gcX0_rowAt hC (GO.deep (c_rowAt (d := 0) hX hr hr1) (by omega)) rfl rfl (fun v25 k25 z25 => ?_)
        obtain ⟨ra, rfl, hR, rfl⟩ := z25
        obtain ⟨-, g0, hg0, hg2⟩ := hR
        rw [em] at hg0 hg2
        have hra := x1 _ _ hg0
        refine g_astore_n (q := 29) dX0_shuffled_28 gs3 rfl ?_
        refine g_aload_n (q := 30) dX0_shuffled_29 rfl rfl ?_
        refine g_alen 0 (q := 31) dX0_shuffled_30 hg0 rfl rfl rfl ?_
        rw [en]
        refine g_newaI (q := 33) (rc := 1) (rs := 200) dX0_shuffled_31 q226 (by omega) (by omega) rfl ?_
        refine g_astore (q := 35) dX0_shuffled_33 gs4 rfl ?_
        refine g_iconst (q := 36) dX0_shuffled_35 rfl ?_
        refine g_istore (q := 38) dX0_shuffled_36 gs5 rfl ?_
        refine g_iconst (q := 39) dX0_shuffled_38 rfl ?_
        refine g_istore (q := 41) dX0_shuffled_39 gs6 rfl ?_
        exact loop ra g0 (by omega) hg0 hg2 (v + 1).toNat 0 0 0 _ _ rfl (by omega) rfl rfl
      · exact absurd z.2 c17
  · rw [if_pos z, if_neg (fun q => z q.1)]
    show GO E iX0_shuffled _ _ _ 0 [some (.ref x), some (vI r), some (vI v), none, none, none, none, none] [] _ _
    refine g_aload_n (q := 1) dX0_shuffled_0 rfl rfl ?_
    refine g_iload_n (q := 2) dX0_shuffled_1 rfl rfl ?_
    refine g_cv (I' := iX0_isRow) (mc := 0) (ms := 0) (rc := 2) (rs := 212) (ci := 0) (q := 5) dX0_shuffled_2 q983 q985 rfl qs26 gcX0_isRow hC (GO.deep (c_isRowX (d := 0) hX h1 ⟨hw.2.1.1, hw.2.1.2⟩) (by omega)) rfl rfl ?_
    refine g_ifeqB (t := 20) (q := 8) dX0_shuffled_5 (by decide) rfl (fun c5 => ?_) (fun c5 => ?_)
    · refine g_bipush (q := 22) dX0_shuffled_20 rfl ?_
      exact g_iret dX0_shuffled_22 rfl ⟨_, rfl, rfl, ow, hX⟩
    · refine g_iload_n (q := 9) dX0_shuffled_8 rfl rfl ?_
      refine g_i2l (q := 10) dX0_shuffled_9 (by first | assumption | exact in32_gB | exact in32_gCmp | (unfold in32; omega)) rfl ?_
      refine g_lconst1 (q := 11) dX0_shuffled_10 rfl ?_
      refine g_ldc2 (a := 3) (q := 14) dX0_shuffled_11 q129 (by decide) rfl ?_
      refine g_cs (I' := iX0_in) (mc := 0) (ms := 0) (rc := 2) (rs := 212) (q := 17) dX0_shuffled_14 q130 q131 gcX0_in (c_inX (by unfold in64; omega) (by unfold in64; omega) (by unfold in64; omega)) rfl rfl ?_
      refine g_ifneB (t := 23) (q := 20) dX0_shuffled_17 (by decide) rfl (fun c17 => ?_) (fun c17 => ?_)
      · exact absurd ⟨c5, c17⟩ z
      · refine g_bipush (q := 22) dX0_shuffled_20 rfl ?_
        exact g_iret dX0_shuffled_22 rfl ⟨_, rfl, rfl, ow, hX⟩
end
