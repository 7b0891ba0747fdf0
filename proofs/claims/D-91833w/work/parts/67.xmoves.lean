/-! THE COMPONENT: a head's moves -/
set_option maxRecDepth 100000
/-- a head at p with the strengths hs, whatever was asked -/
def hHx (E : gE) (G : gH) (p t : Nat) (hs : Int → Int) (k : gH) : Prop := ∃ h2 e2 t2 o2 b2 : Int, k = hH E G p (some t) hs (akO h2 e2 t2 o2 b2)
/-- no strength beyond the things that there are -/
def HZ (w hs : Int → Int) : Prop := ∀ s a b, 0 ≤ s ∧ s < 4 → 0 ≤ a ∧ a < 24 → 0 ≤ b ∧ b < (if s = 3 then 12 else 24) → (w 1 ≤ a ∨ (s ≠ 3 ∧ w 1 ≤ b)) → hs (lkA s a b) = 0
theorem HZ.chg {w hs : Int → Int} {s a b v : Int} (h : HZ w hs) (h1 : 0 ≤ s ∧ s < 4) (h2 : 0 ≤ a ∧ a < 24) (h3 : 0 ≤ b ∧ b < (if s = 3 then 12 else 24)) (ha : a < w 1) (hb : s ≠ 3 → b < w 1) : HZ w (mChg hs (lkA s a b) v) := by
  intro s2 a2 b2 q1 q2 q3 q4
  unfold mChg
  rw [upI_ne]
  · exact h s2 a2 b2 q1 q2 q3 q4
  · intro e
    obtain ⟨e1, e2, e3⟩ := lk_inj q1 q2 q3 h1 h2 h3 e
    subst e1; subst e2; subst e3
    rcases q4 with z | z
    · omega
    · have := hb z.1; omega
section
variable {E : gE} {d p t ra : Nat} {G : gH} {hs w g : Int → Int} {kl kn v s a b c has th B h1 e1 t1 o1 b1 r i : Int} {Q : Outcome → gH → Prop}
/-- what a move comes to -/
def mvV (w hs : Int → Int) (kl kn v s a b : Int) : Int := if v = 0 then comes w hs kl kn (lawN v s) (hs (lkA s a b)) (w (10 + if s = 3 then a else b)) else -(comes w hs kl kn (lawN v s) (hs (lkA s a b)) (w (10 + if s = 3 then a else b)))
theorem c_moves (hT : TXT E (avH p) G.1 w kl kn t) (hw : WFw w) (hh : HSok B hs) (hB : B ≤ 1000000000) (hkn : in32 kn) (hv : 0 ≤ v ∧ v ≤ 2) (hs0 : 0 ≤ s ∧ s < 4) (hvs : v = 2 → s = 0) (ha : 0 ≤ a ∧ a < 24) (hb : 0 ≤ b ∧ b < (if s = 3 then 12 else 24)) :
    CALL E iX3_moves (d + 1301) 0 0 [.ref p, vI v, vI s, vI a, vI b] (hH E G p (some t) hs (akO h1 e1 t1 o1 b1)) (qVP (hHx E G p t (mChg hs (lkA s a b) (mvV w hs kl kn v s a b)))) := by
  have hb2 : b < 24 := by have := hb.2; split at this <;> omega
  have hlk := lk_lt hs0 ha hb
  have hk := hh.1 (lkA s a b) hlk.1 hlk.2
  have hxl : xl hs s a b = hs (lkA s a b) := xl_in hb.1 hb.2
  have hth : 0 ≤ (if s = 3 then a else b) ∧ (if s = 3 then a else b) < 24 := by split <;> omega
  have hci := comes_in (w := w) (hs := hs) (kl := kl) (law := lawN v s) (has := hs (lkA s a b)) (ea := w (10 + if s = 3 then a else b)) hkn
  have fin : ∀ x : Int, x = hs (lkA s a b) + mvV w hs kl kn v s a b → ∀ h2 e2 t2 o2 b2 : Int, hHx E G p t (mChg hs (lkA s a b) (mvV w hs kl kn v s a b)) (hH E G p (some t) (upI hs (lkA s a b) (max 0 (min 1000 x))) (akO h2 e2 t2 o2 b2)) := by
    intro x ex h2 e2 t2 o2 b2
    refine ⟨h2, e2, t2, o2, b2, ?_⟩
    rw [ex]
    rfl
  show GO E iX3_moves _ _ _ 0 [some (.ref p), some (vI v), some (vI s), some (vI a), some (vI b), none, none, none] [] _ _
  refine g_aload_n (q := 1) dX3_moves_0 rfl rfl ?_
  refine g_get (C := RX3) (T := TX3) (ci := 4) (k := 0) (q := 4) dX3_moves_1 q450 rfl in_X3 (by decide) hO rfl rfl ?_
  refine g_iload_n (q := 5) dX3_moves_4 rfl rfl ?_
  refine g_aald (t0 := 6) (q := 6) dX3_moves_5 hL rfl rfl (by omega) (by omega) rfl ?_
  refine g_iload_n (q := 7) dX3_moves_6 rfl rfl ?_
  refine g_aald (t0 := 5) (q := 8) dX3_moves_7 (hM (by omega) (by omega)) rfl rfl (by omega) (by omega) rfl ?_
  refine g_iload (q := 10) dX3_moves_8 rfl rfl ?_
  refine g_iald (q := 11) dX3_moves_10 (hI (by omega) (by omega) (by omega) (by omega)) (by omega) (by omega) rfl ?_
  rw [hxl]
  refine g_istore (q := 13) dX3_moves_11 gs5 rfl ?_
  refine g_aload_n (q := 14) dX3_moves_13 rfl rfl ?_
  refine g_iload_n (q := 15) dX3_moves_14 rfl rfl ?_
  refine g_iload_n (q := 16) dX3_moves_15 rfl rfl ?_
  refine g_iload (q := 18) dX3_moves_16 rfl rfl ?_
  refine g_iload_n (q := 19) dX3_moves_18 rfl rfl ?_
  refine g_iload_n (q := 20) dX3_moves_19 rfl rfl ?_
  refine g_iload (q := 22) dX3_moves_20 rfl rfl ?_
  refine g_cs (I' := iX3_leadsTo) (mc := 0) (ms := 0) (rc := 0) (rs := 0) (q := 25) dX3_moves_22 q1021 q1022 gcX3_leadsTo (c_leadsTo (by unfold in32; omega)) rfl rfl ?_
  refine g_cvP (I' := iX3_law) (mc := 0) (ms := 0) (rc := 0) (rs := 0) (ci := 4) (q := 28) dX3_moves_25 q1024 q1025 rfl q1026 gcX3_law hO (c_lawX (d := d) hT hw hh hB hv (by omega) hvs hk hth) rfl rfl (fun v25 k25 z25 => ?_)
  obtain ⟨rfl, h2, e2, t2, o2, b2, rfl⟩ := z25
  refine g_lstore (q := 30) dX3_moves_28 gt6 rfl ?_
  refine g_aload_n (q := 31) dX3_moves_30 rfl rfl ?_
  refine g_get (C := RX3) (T := TX3) (ci := 4) (k := 0) (q := 34) dX3_moves_31 q450 rfl in_X3 (by decide) hO rfl rfl ?_
  refine g_iload_n (q := 35) dX3_moves_34 rfl rfl ?_
  refine g_aald (t0 := 6) (q := 36) dX3_moves_35 hL rfl rfl (by omega) (by omega) rfl ?_
  refine g_iload_n (q := 37) dX3_moves_36 rfl rfl ?_
  refine g_aald (t0 := 5) (q := 38) dX3_moves_37 (hM (by omega) (by omega)) rfl rfl (by omega) (by omega) rfl ?_
  refine g_iload (q := 40) dX3_moves_38 rfl rfl ?_
  refine g_lconst0 (q := 41) dX3_moves_40 rfl ?_
  refine g_ldc2 (a := 1000) (q := 44) dX3_moves_41 q1070 (by decide) rfl ?_
  refine g_iload_n (q := 45) dX3_moves_44 rfl rfl ?_
  refine g_if_ne (t := 57) (q := 48) dX3_moves_45 (by decide) rfl (by first | assumption | exact in32_gB | exact in32_gCmp | (unfold in32; omega)) (fun c45 => ?_) (fun c45 => ?_)
  · refine g_iload (q := 59) dX3_moves_57 rfl rfl ?_
    refine g_i2l (q := 60) dX3_moves_59 (by first | assumption | exact in32_gB | exact in32_gCmp | (unfold in32; omega)) rfl ?_
    refine g_lload (q := 62) dX3_moves_60 rfl rfl ?_
    refine g_lsub (q := 63) dX3_moves_62 rfl ?_
    refine g_cs (I' := iJ3_min_2) (mc := 0) (ms := 0) (rc := 0) (rs := 0) (q := 66) dX3_moves_63 q1071 q1072 gcJ3_min_2 (c_minL (by unfold in64; omega) (by unfold in64; omega)) rfl rfl ?_
    refine g_cs (I' := iJ3_max_2) (mc := 0) (ms := 0) (rc := 0) (rs := 0) (q := 69) dX3_moves_66 q1074 q1075 gcJ3_max_2 (c_maxL (by unfold in64; omega) (by unfold in64; omega)) rfl rfl ?_
    refine g_l2i (q := 70) dX3_moves_69 rfl ?_
    refine g_iast (q := 71) dX3_moves_70 (hI (by omega) (by omega) (by omega) (by omega)) (by omega) (by omega)  rfl ?_
    refine GO.cast (hU (by omega) (by omega) (by omega) (by omega) hb) ?_
    exact g_vret dX3_moves_71 rfl ⟨rfl, fin _ (by unfold mvV; first | rw [if_pos c45] | rw [if_neg c45, Int.sub_eq_add_neg]) _ _ _ _ _⟩
  · refine g_iload (q := 50) dX3_moves_48 rfl rfl ?_
    refine g_i2l (q := 51) dX3_moves_50 (by first | assumption | exact in32_gB | exact in32_gCmp | (unfold in32; omega)) rfl ?_
    refine g_lload (q := 53) dX3_moves_51 rfl rfl ?_
    refine g_ladd (q := 54) dX3_moves_53 rfl ?_
    refine g_goto (t := 63) dX3_moves_54 (by decide) ?_
    refine g_cs (I' := iJ3_min_2) (mc := 0) (ms := 0) (rc := 0) (rs := 0) (q := 66) dX3_moves_63 q1071 q1072 gcJ3_min_2 (c_minL (by unfold in64; omega) (by unfold in64; omega)) rfl rfl ?_
    refine g_cs (I' := iJ3_max_2) (mc := 0) (ms := 0) (rc := 0) (rs := 0) (q := 69) dX3_moves_66 q1074 q1075 gcJ3_max_2 (c_maxL (by unfold in64; omega) (by unfold in64; omega)) rfl rfl ?_
    refine g_l2i (q := 70) dX3_moves_69 rfl ?_
    refine g_iast (q := 71) dX3_moves_70 (hI (by omega) (by omega) (by omega) (by omega)) (by omega) (by omega)  rfl ?_
    refine GO.cast (hU (by omega) (by omega) (by omega) (by omega) hb) ?_
    exact g_vret dX3_moves_71 rfl ⟨rfl, fin _ (by unfold mvV; first | rw [if_pos c45] | rw [if_neg c45, Int.sub_eq_add_neg]) _ _ _ _ _⟩
/-- a row of the text at ra -/
def ROWc (E : gE) (av : Nat → Prop) (h : Nat → Option va_E) (w : Int → Int) (r : Int) (ra : Nat) : Prop := ¬ av ra ∧ ∃ g : Int → Int, h ra = some (aI E (w (34 + 14 * r)).toNat g) ∧ ∀ j, 0 ≤ j → j < w (34 + 14 * r) → g j = w (34 + 14 * r + 1 + j)
theorem mvV_grow {e : Int} (he : e = if s = 3 then a else b) : mChg hs (lkA s a b) (mvV w hs kl kn 0 s a b) = mGrow w hs kl kn s a b e := by
  unfold mvV mGrow
  rw [if_pos rfl, he]
  congr 2
  unfold lawN
  rw [if_neg (by decide)]
  omega
end
