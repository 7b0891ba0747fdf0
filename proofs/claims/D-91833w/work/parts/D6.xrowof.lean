/-! THE COMPONENT: rowOf -/
set_option maxRecDepth 100000
/-- what rowOf says and does -/
def roR (my nm w md : Int → Int) (k o : Int) (w2 : Int → Int) : Prop :=
  (¬ (0 ≤ k ∧ k ≤ 3) ∧ o = -2 ∧ w2 = w) ∨ ((0 ≤ k ∧ k ≤ 3) ∧ my k = -1 ∧ o = -6 ∧ w2 = w) ∨ ((0 ≤ k ∧ k ≤ 3) ∧ ¬ my k = -1 ∧ ¬ (2 ≤ my k ∧ my k ≤ 12) ∧ o = -2 ∧ w2 = w) ∨ ((0 ≤ k ∧ k ≤ 3) ∧ (2 ≤ my k ∧ my k ≤ 12) ∧ ¬ roW nm k (w 1) (my k).toNat 0 ∧ o = -2 ∧ w2 = w) ∨ ((0 ≤ k ∧ k ≤ 3) ∧ (2 ≤ my k ∧ my k ≤ 12) ∧ roW nm k (w 1) (my k).toNat 0 ∧ w 2 = 12 ∧ o = -3 ∧ w2 = w) ∨ ((0 ≤ k ∧ k ≤ 3) ∧ (2 ≤ my k ∧ my k ≤ 12) ∧ roW nm k (w 1) (my k).toNat 0 ∧ ¬ w 2 = 12 ∧ o = w 2 ∧ w2 = mkW w (my k) (cpyI md (roG nm k) 0 0 (my k)))
section
variable {E : gE} {d rc rs x : Nat} {mf : Nat → va_E} {ow : OW} {h : gH} {w hs bk tp iL iS my wd : Int → Int} {uW uH uB uN : Int → Int → Int} {si lo td fk fp : Int}
variable {k i j : Int} {sl rc rs N : Nat} {g md : Int → Int} {Q : Outcome → gH → Prop}
theorem l_roX1 (hi : 0 ≤ i ∧ i < N) (hN : N ≤ 12) (hg : ∀ j, 0 ≤ j → j ≤ i → g j = uN k j ∧ 0 ≤ uN k j ∧ uN k j ≤ 23) : ∀ (f : Nat) (j : Int), 0 ≤ j → j + f = i →
    (roD (fl 60 uN) k i f j → ∀ x5 : Option Value, GO E iX0_rowOf d rc rs 134 [some (.ref x), some (vI k), some (.ref sl), some (.ref h.2), some (vI i), x5] [] (hnew h (aI E N g)) Q) →
    (¬ roD (fl 60 uN) k i f j → Q (.returned (some (vI (-2)))) (hnew h (aI E N g))) →
    GO E iX0_rowOf d rc rs 107 [some (.ref x), some (vI k), some (.ref sl), some (.ref h.2), some (vI i), some (vI j)] [] (hnew h (aI E N g)) Q := by
  have gi := hg i hi.1 (by omega)
  have fi : fl 60 uN (60 * k + i) = uN k i := fl_at (by omega) (by omega)
  intro f
  induction f with
  | zero =>
    intro j h0 h1 ky ko
    refine g_iload (q := 109) dX0_rowOf_107 rfl rfl ?_
    refine g_iload (q := 111) dX0_rowOf_109 rfl rfl ?_
    refine g_icmp_ge (t := 134) (q := 114) dX0_rowOf_111 (by decide) rfl (by first | assumption | exact in32_gB | exact in32_gCmp | (unfold in32; omega)) (by first | assumption | exact in32_gB | exact in32_gCmp | (unfold in32; omega)) (fun c111 => ?_) (fun c111 => ?_)
    · exact ky trivial _
    · exact absurd c111 (by omega)
  | succ f ih =>
    intro j h0 h1 ky ko
    have gj := hg j h0 (by omega)
    have fj : fl 60 uN (60 * k + j) = uN k j := fl_at (by omega) (by omega)
    refine g_iload (q := 109) dX0_rowOf_107 rfl rfl ?_
    refine g_iload (q := 111) dX0_rowOf_109 rfl rfl ?_
    refine g_icmp_ge (t := 134) (q := 114) dX0_rowOf_111 (by decide) rfl (by first | assumption | exact in32_gB | exact in32_gCmp | (unfold in32; omega)) (by first | assumption | exact in32_gB | exact in32_gCmp | (unfold in32; omega)) (fun c111 => ?_) (fun c111 => ?_)
    · exact absurd c111 (by omega)
    · refine g_aload_n (q := 115) dX0_rowOf_114 rfl rfl ?_
      refine g_iload (q := 117) dX0_rowOf_115 rfl rfl ?_
      refine g_iald (q := 118) dX0_rowOf_117 hnew_at (by omega) (by omega) rfl ?_
      refine g_aload_n (q := 119) dX0_rowOf_118 rfl rfl ?_
      refine g_iload (q := 121) dX0_rowOf_119 rfl rfl ?_
      refine g_iald (q := 122) dX0_rowOf_121 hnew_at (by omega) (by omega) rfl ?_
      refine g_icmp_ne (t := 128) (q := 125) dX0_rowOf_122 (by decide) rfl (by rw [gj.1]; unfold in32; omega) (by rw [gi.1]; unfold in32; omega) (fun c122 => ?_) (fun c122 => ?_)
      · refine g_iinc (q := 131) dX0_rowOf_128 rfl gs5 rfl ?_
        refine g_goto (t := 107) dX0_rowOf_131 (by decide) ?_
        exact ih _ (by omega) (by omega) (fun q => ky ⟨fun e => c122 (gj.1.trans ((fj.symm.trans (e.trans fi)).trans gi.1.symm)), q⟩) (fun q => ko (fun q2 => q q2.2))
      · refine g_bipush (q := 127) dX0_rowOf_125 rfl ?_
        exact g_iret dX0_rowOf_127 rfl (ko (fun q => q.1 (fj.trans ((gj.1.symm.trans (c122.trans gi.1)).trans fi.symm))))
theorem l_roX2 (hX : (XR E x mf ow h w hs si lo bk uW uH uB iL iS tp td fk fp my wd uN)) (hw1 : 0 ≤ w 1 ∧ w 1 ≤ 24) (hk : 0 ≤ k ∧ k < 4) (hmy : 2 ≤ my k ∧ my k ≤ 12) (hNM : NMok my wd uN) (hwd : ∀ s, isSl s → 0 ≤ wd s ∧ wd s ≤ 3) : ∀ (f : Nat) (i : Int) (g : Int → Int) (x5 : Option Value), 0 ≤ i → i + f = my k → (∀ j, 0 ≤ j → j < i → g j = uN k j ∧ 0 ≤ uN k j ∧ uN k j ≤ 23) →
    (roW (fl 60 uN) k (w 1) f i → ∀ (g' : Int → Int) (x4 x5 : Option Value), (∀ j, 0 ≤ j → j < my k → g' j = uN k j) → GO E iX0_rowOf (d + 2) rc rs 140 [some (.ref x), some (vI k), some (.ref (x + 226 + k.toNat)), some (.ref h.2), x4, x5] [] (hnew h (aI E (my k).toNat g')) Q) →
    (¬ roW (fl 60 uN) k (w 1) f i → ∀ g' : Int → Int, Q (.returned (some (vI (-2)))) (hnew h (aI E (my k).toNat g'))) →
    GO E iX0_rowOf (d + 2) rc rs 57 [some (.ref x), some (vI k), some (.ref (x + 226 + k.toNat)), some (.ref h.2), some (vI i), x5] [] (hnew h (aI E (my k).toNat g)) Q := by
  have en : (((my k).toNat : Nat) : Int) = my k := Int.toNat_of_nonneg (by omega)
  have hsl : isSl k := by unfold isSl; omega
  intro f
  induction f with
  | zero =>
    intro i g x5 h0 h1 hg ky ko
    refine g_iload (q := 59) dX0_rowOf_57 rfl rfl ?_
    refine g_aload_n (q := 60) dX0_rowOf_59 rfl rfl ?_
    refine g_alen 0 (q := 61) dX0_rowOf_60 hnew_at rfl rfl rfl ?_
    rw [en]
    refine g_icmp_ge (t := 140) (q := 64) dX0_rowOf_61 (by decide) rfl (by first | assumption | exact in32_gB | exact in32_gCmp | (unfold in32; omega)) (by first | assumption | exact in32_gB | exact in32_gCmp | (unfold in32; omega)) (fun c61 => ?_) (fun c61 => ?_)
    · exact ky trivial _ _ _ (fun j j1 j2 => (hg j j1 (by omega)).1)
    · exact absurd c61 (by omega)
  | succ f ih =>
    intro i g x5 h0 h1 hg ky ko
    have hXn := hX.fresh (g := g) (N := (my k).toNat)
    have hXm := hX.fresh (g := g) (N := (my k).toNat)
    obtain ⟨a0, hb⟩ := hXn.held hk (by omega)
    obtain ⟨x1, x2, ⟨w3, bl, tq, pl, bp, hC, hRr, -⟩, ⟨t, s1, s2, s3, s4, s5⟩, x5', x6, x7⟩ := id hXn
    obtain ⟨te, tl, tw, tz, tw2, lw, ge, gl, hd, -, ct, -⟩ := s2 0
    have m1 := inW_64 (hwd k hsl) (hNM k i hsl h0 (by omega))
    have fi : fl 60 uN (60 * k + i) = uN k i := fl_at (by omega) (by omega)
    have nx : ((0 ≤ uN k i ∧ uN k i ≤ w 1 - 1) ∧ roD (fl 60 uN) k i i.toNat 0) → ∀ x5 : Option Value, GO E iX0_rowOf (d + 2) rc rs 134 [some (.ref x), some (vI k), some (.ref (x + 226 + k.toNat)), some (.ref h.2), some (vI i), x5] [] (hnew h (aI E (my k).toNat (upI g i (uN k i)))) Q := by
      intro q x5
      refine g_iinc (q := 137) dX0_rowOf_134 rfl gs4 rfl ?_
      refine g_goto (t := 57) dX0_rowOf_137 (by decide) ?_
      refine ih _ _ _ (by omega) (by omega) (fun j j1 j2 => ?_) (fun q2 => ky ⟨by rw [fi]; exact q.1, q.2, q2⟩) (fun q2 => ko (fun q3 => q2 q3.2.2))
      by_cases y : j = i
      · subst y; rw [upI_at]; omega
      · rw [upI_ne y]; exact hg j j1 (by omega)
    refine g_iload (q := 59) dX0_rowOf_57 rfl rfl ?_
    refine g_aload_n (q := 60) dX0_rowOf_59 rfl rfl ?_
    refine g_alen 0 (q := 61) dX0_rowOf_60 hnew_at rfl rfl rfl ?_
    rw [en]
    refine g_icmp_ge (t := 140) (q := 64) dX0_rowOf_61 (by decide) rfl (by first | assumption | exact in32_gB | exact in32_gCmp | (unfold in32; omega)) (by first | assumption | exact in32_gB | exact in32_gCmp | (unfold in32; omega)) (fun c61 => ?_) (fun c61 => ?_)
    · exact absurd c61 (by omega)
    · refine g_aload_n (q := 65) dX0_rowOf_64 rfl rfl ?_
      refine g_iload (q := 67) dX0_rowOf_65 rfl rfl ?_
      refine g_cv (I' := iX5_number) (mc := 0) (ms := 0) (rc := rc) (rs := rs) (ci := 6) (q := 70) dX0_rowOf_67 q1293 q1294 rfl q1295 gcX5_number hb (GO.deep (c_numX (d := 0) hXn hk (by omega) hNM) (by omega)) rfl rfl ?_
      refine g_lconst0 (q := 71) dX0_rowOf_70 rfl ?_
      refine g_aload_n (q := 72) dX0_rowOf_71 rfl rfl ?_
      refine g_get (C := RX0) (T := TX0) (ci := 0) (k := 1) (q := 75) dX0_rowOf_72 q519 rfl in_X0 (by decide) hC rfl rfl ?_
      refine g_getN (C := RX1) (T := TX1) (ci := 1) (k := 0) (q := 78) dX0_rowOf_75 q478 rfl in_X1 (by decide) s1.2.1 rfl rfl ?_
      refine g_getN (C := RX2) (T := TX2) (ci := 2) (k := 4) (q := 81) dX0_rowOf_78 q360 rfl in_X2 (by decide) ct rfl rfl ?_
      refine g_iconst (q := 82) dX0_rowOf_81 rfl ?_
      refine g_isub (q := 83) dX0_rowOf_82 rfl ?_
      refine g_i2l (q := 84) dX0_rowOf_83 (by first | assumption | exact in32_gB | exact in32_gCmp | (unfold in32; omega)) rfl ?_
      refine g_cs (I' := iX0_in) (mc := 0) (ms := 0) (rc := rc) (rs := rs) (q := 87) dX0_rowOf_84 q130 q131 gcX0_in (c_inX m1 (by unfold in64; omega) (by unfold in64; omega)) rfl rfl ?_
      refine g_ifneB (t := 93) (q := 90) dX0_rowOf_87 (by decide) rfl (fun c87 => ?_) (fun c87 => ?_)
      · refine g_aload_n (q := 94) dX0_rowOf_93 rfl rfl ?_
        refine g_iload (q := 96) dX0_rowOf_94 rfl rfl ?_
        refine g_aload_n (q := 97) dX0_rowOf_96 rfl rfl ?_
        refine g_iload (q := 99) dX0_rowOf_97 rfl rfl ?_
        refine g_cv (I' := iX5_number) (mc := 0) (ms := 0) (rc := rc) (rs := rs) (ci := 6) (q := 102) dX0_rowOf_99 q1293 q1294 rfl q1295 gcX5_number hb (GO.deep (c_numX (d := 0) hXm hk (by omega) hNM) (by omega)) rfl rfl ?_
        refine g_l2i (q := 103) dX0_rowOf_102 rfl ?_
        refine g_iast (q := 104) dX0_rowOf_103 hnew_at (by omega) (by omega)  rfl ?_
        rw [hnew_set]
        refine g_iconst (q := 105) dX0_rowOf_104 rfl ?_
        refine g_istore (q := 107) dX0_rowOf_105 gs5 rfl ?_
        refine l_roX1 (N := (my k).toNat) (by omega) (by omega) (fun j j1 j2 => ?_) i.toNat 0 (by omega) (by omega) (fun q => nx ⟨c87, q⟩) (fun q => ko (fun q2 => q q2.2.1) _)
        · by_cases y : j = i
          · subst y; rw [upI_at]; omega
          · rw [upI_ne y]; exact hg j j1 (by omega)
      · refine g_bipush (q := 92) dX0_rowOf_90 rfl ?_
        exact g_iret dX0_rowOf_92 rfl (ko (fun q => c87 (by have q1 := q.1; rw [fi] at q1; exact q1)) g)
theorem c_rowOfX (hX : (XR E x mf ow h w hs si lo bk uW uH uB iL iS tp td fk fp my wd uN)) (hw : WFw w) (hw9 : 0 ≤ w 9 ∧ w 9 ≤ w 2) (hr : in32 k) (hmy : ∀ s, isSl s → -1 ≤ my s ∧ my s ≤ 60) (hNM : NMok my wd uN) (hwd : ∀ s, isSl s → 0 ≤ wd s ∧ wd s ≤ 3) (md : Int → Int) :
    CALL E iX0_rowOf (d + 8) 2 212 [.ref x, vI k] h (qP fun o k' => ∃ o' w2, o = vI o' ∧ roR my (fl 60 uN) w md k o' w2 ∧ ∃ ow', (XR E x mf ow' k' w2 hs si lo bk uW uH uB iL iS tp td fk fp my wd uN)) := by
  obtain ⟨x1, x2, ⟨w3, bl, tq, pl, bp, hC, hRr, -⟩, -⟩ := id hX
  by_cases z : 0 ≤ k ∧ k ≤ 3
  · have hk : 0 ≤ k ∧ k < 4 := by omega
    have hm := hmy k z
    by_cases z1 : my k = -1
    · have hb := hX.held0 hk z1
      show GO E iX0_rowOf _ _ _ 0 [some (.ref x), some (vI k), none, none, none, none] [] _ _
      refine g_iload_n (q := 1) dX0_rowOf_0 rfl rfl ?_
      refine g_cs (I' := iX0_isSlot) (mc := 0) (ms := 0) (rc := 2) (rs := 212) (q := 4) dX0_rowOf_1 q126 q127 gcX0_isSlot (c_isSlotX (s := k) hr) rfl rfl ?_
      refine g_ifneB (t := 10) (q := 7) dX0_rowOf_4 (by decide) rfl (fun c4 => ?_) (fun c4 => ?_)
      · refine g_aload_n (q := 11) dX0_rowOf_10 rfl rfl ?_
        refine g_get (C := RX0) (T := TX0) (ci := 0) (k := 0) (q := 14) dX0_rowOf_11 q518 rfl in_X0 (by decide) hC rfl rfl ?_
        refine g_iload_n (q := 15) dX0_rowOf_14 rfl rfl ?_
        refine g_aald (t0 := 7) (q := 16) dX0_rowOf_15 hRr rfl rfl (by omega) (by omega) rfl ?_
        refine g_astore_n (q := 17) dX0_rowOf_16 gs2 rfl ?_
        refine g_aload_n (q := 18) dX0_rowOf_17 rfl rfl ?_
        refine g_getN (C := RX5) (T := TX5) (ci := 6) (k := 0) (q := 21) dX0_rowOf_18 q514 rfl in_X5 (by decide) hb rfl rfl ?_
        refine g_ifnonnullN (q := 24) dX0_rowOf_21 rfl ?_
        refine g_bipush (q := 26) dX0_rowOf_24 rfl ?_
        exact g_iret dX0_rowOf_26 rfl ⟨_, rfl, _, _, rfl, Or.inr (Or.inl ⟨z, z1, rfl, rfl⟩), ow, hX⟩
      · exact absurd z c4
    · obtain ⟨a0, hb⟩ := hX.held hk (by omega)
      by_cases z2 : 2 ≤ my k ∧ my k ≤ 12
      · have hlt := x1 _ _ hC
        have fin : roW (fl 60 uN) k (w 1) (my k).toNat 0 → ∀ (g' : Int → Int) (x4 x5 : Option Value), (∀ j, 0 ≤ j → j < my k → g' j = uN k j) → GO E iX0_rowOf (d + 6 + 2) 1 200 140 [some (.ref x), some (vI k), some (.ref (x + 226 + k.toNat)), some (.ref h.2), x4, x5] [] (hnew h (aI E (my k).toNat g')) (qP fun o k' => ∃ o' w2, o = vI o' ∧ roR my (fl 60 uN) w md k o' w2 ∧ ∃ ow', (XR E x mf ow' k' w2 hs si lo bk uW uH uB iL iS tp td fk fp my wd uN)) := by
          intro hro g' x4 x5 hg
          have q := c_addsX (d := d) (ra := h.2) (n := my k) (gr := g') (md := cpyI md (roG (fl 60 uN) k) 0 0 (my k)) (hX.fresh (g := g') (N := (my k).toNat)) hw hw9 hnew_at upO_at z2 (fun j q1 q2 => (cpyI_in (by omega) (by omega)).trans (by
            show fl 60 uN (60 * k + (0 + (j - 0))) = g' j
            rw [fl_at (by omega) (by omega), hg j q1 q2]
            congr 1
            omega))
          refine g_aload_n (q := 141) dX0_rowOf_140 rfl rfl ?_
          refine g_aload_n (q := 142) dX0_rowOf_141 rfl rfl ?_
          refine g_cvP (I' := iX0_adds) (mc := 1) (ms := 200) (rc := 0) (rs := 0) (ci := 0) (q := 145) dX0_rowOf_142 q1334 q1336 rfl qs41 gcX0_adds ((hnew_ne (by omega)).trans hC) (q) rfl rfl (fun v142 k142 z142 => ?_)
          obtain ⟨rfl, ow2, hX2⟩ := z142
          refine g_iret dX0_rowOf_145 rfl ?_
          by_cases c12 : w 2 = 12
          · rw [if_pos c12] at hX2 ⊢
            exact ⟨_, rfl, _, _, rfl, Or.inr (Or.inr (Or.inr (Or.inr (Or.inl ⟨z, z2, hro, c12, rfl, rfl⟩)))), ow2, hX2⟩
          · rw [if_neg c12] at hX2 ⊢
            exact ⟨_, rfl, _, _, rfl, Or.inr (Or.inr (Or.inr (Or.inr (Or.inr ⟨z, z2, hro, c12, rfl, rfl⟩)))), ow2, hX2⟩
        refine GO.room (rc := 1 + 1) (rs := 200 + (my k).toNat) ?_ (by omega) (by omega)
        obtain ⟨N, eN⟩ : ∃ N : Nat, N = (my k).toNat := ⟨_, rfl⟩
        rw [← eN]
        show GO E iX0_rowOf _ _ _ 0 [some (.ref x), some (vI k), none, none, none, none] [] _ _
        refine g_iload_n (q := 1) dX0_rowOf_0 rfl rfl ?_
        refine g_cs (I' := iX0_isSlot) (mc := 0) (ms := 0) (rc := 2) (rs := (200+N)) (q := 4) dX0_rowOf_1 q126 q127 gcX0_isSlot (c_isSlotX (s := k) hr) rfl rfl ?_
        refine g_ifneB (t := 10) (q := 7) dX0_rowOf_4 (by decide) rfl (fun c4 => ?_) (fun c4 => ?_)
        · refine g_aload_n (q := 11) dX0_rowOf_10 rfl rfl ?_
          refine g_get (C := RX0) (T := TX0) (ci := 0) (k := 0) (q := 14) dX0_rowOf_11 q518 rfl in_X0 (by decide) hC rfl rfl ?_
          refine g_iload_n (q := 15) dX0_rowOf_14 rfl rfl ?_
          refine g_aald (t0 := 7) (q := 16) dX0_rowOf_15 hRr rfl rfl (by omega) (by omega) rfl ?_
          refine g_astore_n (q := 17) dX0_rowOf_16 gs2 rfl ?_
          refine g_aload_n (q := 18) dX0_rowOf_17 rfl rfl ?_
          refine g_getN (C := RX5) (T := TX5) (ci := 6) (k := 0) (q := 21) dX0_rowOf_18 q514 rfl in_X5 (by decide) hb rfl rfl ?_
          refine g_ifnonnullR (t := 27) dX0_rowOf_21 (by decide) ?_
          refine g_aload_n (q := 28) dX0_rowOf_27 rfl rfl ?_
          refine g_cv (I' := iX5_many) (mc := 0) (ms := 0) (rc := 2) (rs := (200+N)) (ci := 6) (q := 31) dX0_rowOf_28 q1289 q1290 rfl q1291 gcX5_many hb (c_manyX hX hk (by omega)) rfl rfl ?_
          refine g_i2l (q := 32) dX0_rowOf_31 (by first | assumption | exact in32_gB | exact in32_gCmp | (unfold in32; omega)) rfl ?_
          refine g_ldc2 (a := 2) (q := 35) dX0_rowOf_32 q1187 (by decide) rfl ?_
          refine g_ldc2 (a := 12) (q := 38) dX0_rowOf_35 q1346 (by decide) rfl ?_
          refine g_cs (I' := iX0_in) (mc := 0) (ms := 0) (rc := 2) (rs := (200+N)) (q := 41) dX0_rowOf_38 q130 q131 gcX0_in (c_inX (by unfold in64; omega) (by unfold in64; omega) (by unfold in64; omega)) rfl rfl ?_
          refine g_ifneB (t := 47) (q := 44) dX0_rowOf_41 (by decide) rfl (fun c41 => ?_) (fun c41 => ?_)
          · refine g_aload_n (q := 48) dX0_rowOf_47 rfl rfl ?_
            refine g_cv (I' := iX5_many) (mc := 0) (ms := 0) (rc := 2) (rs := (200+N)) (ci := 6) (q := 51) dX0_rowOf_48 q1289 q1290 rfl q1291 gcX5_many hb (c_manyX hX hk (by omega)) rfl rfl ?_
            rw [eN]; refine g_newaI (q := 53) (rc := 1) (rs := 200) dX0_rowOf_51 q226 (by omega) (by omega) rfl ?_
            refine g_astore_n (q := 54) dX0_rowOf_53 gs3 rfl ?_
            refine g_iconst (q := 55) dX0_rowOf_54 rfl ?_
            refine g_istore (q := 57) dX0_rowOf_55 gs4 rfl ?_
            exact l_roX2 (d := d + 6) hX hw.1 hk z2 hNM hwd (my k).toNat 0 _ _ (by omega) (by omega) (fun j j1 j2 => absurd j2 (by omega)) fin (fun q g' => ⟨_, rfl, _, _, rfl, Or.inr (Or.inr (Or.inr (Or.inl ⟨z, z2, q, rfl, rfl⟩))), _, hX.fresh⟩)
          · exact absurd z2 c41
        · exact absurd z c4
      · show GO E iX0_rowOf _ _ _ 0 [some (.ref x), some (vI k), none, none, none, none] [] _ _
        refine g_iload_n (q := 1) dX0_rowOf_0 rfl rfl ?_
        refine g_cs (I' := iX0_isSlot) (mc := 0) (ms := 0) (rc := 2) (rs := 212) (q := 4) dX0_rowOf_1 q126 q127 gcX0_isSlot (c_isSlotX (s := k) hr) rfl rfl ?_
        refine g_ifneB (t := 10) (q := 7) dX0_rowOf_4 (by decide) rfl (fun c4 => ?_) (fun c4 => ?_)
        · refine g_aload_n (q := 11) dX0_rowOf_10 rfl rfl ?_
          refine g_get (C := RX0) (T := TX0) (ci := 0) (k := 0) (q := 14) dX0_rowOf_11 q518 rfl in_X0 (by decide) hC rfl rfl ?_
          refine g_iload_n (q := 15) dX0_rowOf_14 rfl rfl ?_
          refine g_aald (t0 := 7) (q := 16) dX0_rowOf_15 hRr rfl rfl (by omega) (by omega) rfl ?_
          refine g_astore_n (q := 17) dX0_rowOf_16 gs2 rfl ?_
          refine g_aload_n (q := 18) dX0_rowOf_17 rfl rfl ?_
          refine g_getN (C := RX5) (T := TX5) (ci := 6) (k := 0) (q := 21) dX0_rowOf_18 q514 rfl in_X5 (by decide) hb rfl rfl ?_
          refine g_ifnonnullR (t := 27) dX0_rowOf_21 (by decide) ?_
          refine g_aload_n (q := 28) dX0_rowOf_27 rfl rfl ?_
          refine g_cv (I' := iX5_many) (mc := 0) (ms := 0) (rc := 2) (rs := 212) (ci := 6) (q := 31) dX0_rowOf_28 q1289 q1290 rfl q1291 gcX5_many hb (c_manyX hX hk (by omega)) rfl rfl ?_
          refine g_i2l (q := 32) dX0_rowOf_31 (by first | assumption | exact in32_gB | exact in32_gCmp | (unfold in32; omega)) rfl ?_
          refine g_ldc2 (a := 2) (q := 35) dX0_rowOf_32 q1187 (by decide) rfl ?_
          refine g_ldc2 (a := 12) (q := 38) dX0_rowOf_35 q1346 (by decide) rfl ?_
          refine g_cs (I' := iX0_in) (mc := 0) (ms := 0) (rc := 2) (rs := 212) (q := 41) dX0_rowOf_38 q130 q131 gcX0_in (c_inX (by unfold in64; omega) (by unfold in64; omega) (by unfold in64; omega)) rfl rfl ?_
          refine g_ifneB (t := 47) (q := 44) dX0_rowOf_41 (by decide) rfl (fun c41 => ?_) (fun c41 => ?_)
          · exact absurd c41 z2
          · refine g_bipush (q := 46) dX0_rowOf_44 rfl ?_
            exact g_iret dX0_rowOf_46 rfl ⟨_, rfl, _, _, rfl, Or.inr (Or.inr (Or.inl ⟨z, z1, z2, rfl, rfl⟩)), ow, hX⟩
        · exact absurd z c4
  · show GO E iX0_rowOf _ _ _ 0 [some (.ref x), some (vI k), none, none, none, none] [] _ _
    refine g_iload_n (q := 1) dX0_rowOf_0 rfl rfl ?_
    refine g_cs (I' := iX0_isSlot) (mc := 0) (ms := 0) (rc := 2) (rs := 212) (q := 4) dX0_rowOf_1 q126 q127 gcX0_isSlot (c_isSlotX (s := k) hr) rfl rfl ?_
    refine g_ifneB (t := 10) (q := 7) dX0_rowOf_4 (by decide) rfl (fun c4 => ?_) (fun c4 => ?_)
    · exact absurd c4 z
    · refine g_bipush (q := 9) dX0_rowOf_7 rfl ?_
      exact g_iret dX0_rowOf_9 rfl ⟨_, rfl, _, _, rfl, Or.inl ⟨z, rfl, rfl⟩, ow, hX⟩
end
