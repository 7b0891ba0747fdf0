/-! THE COMPONENT: its constructor -/
set_option maxRecDepth 100000
theorem GO.gen {E : gE} {I : gI} {d rc rs pc : Nat} {lv : List (Option Value)} {st : List Value} {h : gH} {Q : Outcome → gH → Prop} (P : gH → Prop) (hP : P h) (kk : ∀ k, P k → GO E I d rc rs pc lv st k Q) : GO E I d rc rs pc lv st h Q := kk h hP
/-- whose the component's cells are; what lies behind is the reference's -/
def owX (x : Nat) : OW := fun b => if b < x + 2 then 1 else if b < x + 119 then owS (fun _ => 0) 0 (x + 2) b else if b < x + 120 then 8 else if b < x + 223 then 2 else if b < x + 226 then 1 else if b < x + 230 then b - (x + 222) else 3
theorem owX_st {x : Nat} : OS (owX x) 0 (x + 2) := fun j hj => by
  have := OS.owS (ow := fun _ => 0) (q := 0) (a := x + 2) j hj
  rw [← this]
  unfold owX
  rw [if_neg (by omega), if_pos (by omega)]
/-- the component while it is made: n cells, its object o, the other cells C -/
def PX (E : gE) (x n : Nat) (bk : Int → Int) (o : va_E) (C : Nat → Option va_E) (k : gH) : Prop :=
  HW k ∧ k.2 = x + n ∧ 119 ≤ n ∧ k.1 x = some o ∧ STT E (owX x) k 0 (x + 2) (fun _ => 0) (fun _ => 0) 0 0 bk ∧ ∀ j v, 1 ≤ j → C j = some v → k.1 (x + j) = some v
def upC (C : Nat → Option va_E) (n : Nat) (v : va_E) : Nat → Option va_E := fun j => if j = n then some v else C j
section
variable {E : gE} {d x n : Nat} {o o' v : va_E} {C : Nat → Option va_E} {h k : gH} {bk iS my wd : Int → Int} {uW uH uB uN : Int → Int → Int} {iL : Int → Int}
theorem PX.set (hP : PX E x n bk o C k) : PX E x n bk o' C (hset k x o') := by
  obtain ⟨p1, p2, p0, p3, p4, p5⟩ := hP
  have ox : owX x x = 1 := if_pos (by omega)
  exact ⟨p1.set p3, p2, p0, hset_at, p4.fr (FR.set ox) (by decide) (fun i _ _ => by omega), fun j w z1 z2 => (hset_ne (by omega)).trans (p5 j w z1 z2)⟩
theorem PX.new (hP : PX E x n bk o C k) : PX E x (n + 1) bk o (upC C n v) (hnew k v) := by
  obtain ⟨p1, p2, p0, p3, p4, p5⟩ := hP
  refine ⟨p1.new, by show k.2 + 1 = _; omega, by omega, (hnew_ne (by omega)).trans p3, p4.fr (q := fun _ => True) (FR.new p1 (fun _ _ => rfl)) trivial (fun i _ _ => trivial), fun j w z1 z2 => ?_⟩
  by_cases c : j = n
  · subst c
    unfold upC at z2
    rw [if_pos rfl] at z2
    rw [← p2, ← z2]
    exact hnew_at
  · unfold upC at z2
    rw [if_neg c] at z2
    exact (hnew_ne (by omega)).trans (p5 j w z1 z2)
theorem PX.row (hP : PX E x n bk o C k) (hc : ∃ u, C 1 = some u) : PX E x n bk o (upC C 1 v) (hset k (x + 1) v) := by
  obtain ⟨p1, p2, p0, p3, p4, p5⟩ := hP
  obtain ⟨u, hu⟩ := hc
  have ox : owX x (x + 1) = 1 := if_pos (by omega)
  refine ⟨p1.set (p5 1 u (by decide) hu), p2, p0, (hset_ne (by omega)).trans p3, p4.fr (FR.set ox) (by decide) (fun i _ _ => by omega), fun j w z1 z2 => ?_⟩
  by_cases c : j = 1
  · subst c
    unfold upC at z2
    rw [if_pos rfl] at z2
    rw [← z2]
    exact hset_at
  · unfold upC at z2
    rw [if_neg c] at z2
    exact (hset_ne (by omega)).trans (p5 j w z1 z2)
def hdC (E : gE) (C : Nat → Option va_E) (x n : Nat) : Nat → Option va_E := fun j => if n ≤ j ∧ j < n + 103 then some (hdF E (x + n) none (fun _ => 0) (akO 0 0 0 0 0) (j - n)) else C j
theorem PX.head (hP : PX E x n bk o C k) : PX E x (n + 103) bk o (hdC E C x n) (ADD k 103 (hdF E k.2 none (fun _ => 0) (akO 0 0 0 0 0))) := by
  obtain ⟨p1, p2, p0, p3, p4, p5⟩ := hP
  have hF : FR (owX x) (owX x) k (ADD k 103 (hdF E k.2 none (fun _ => 0) (akO 0 0 0 0 0))) (fun _ => True) := fun b u e _ => ⟨(ADD_lo (p1 b u e)).trans e, rfl⟩
  refine ⟨fun b u e => ?_, by show k.2 + 103 = _; omega, by omega, (ADD_lo (by omega)).trans p3, p4.fr hF trivial (fun i _ _ => trivial), fun j w z1 z2 => ?_⟩
  · show b < k.2 + 103
    by_cases c : k.2 ≤ b ∧ b < k.2 + 103
    · exact c.2
    · have : k.1 b = some u := by rw [← e]; exact (if_neg c).symm
      have := p1 b u this
      omega
  · unfold hdC at z2
    by_cases c : n ≤ j ∧ j < n + 103
    · rw [if_pos c] at z2
      rw [← z2, show x + j = k.2 + (j - n) by omega, ← p2]
      exact ADD_at (h := k) (n := 103) (F := hdF E k.2 none (fun _ => 0) (akO 0 0 0 0 0)) (j - n) (by omega)
    · rw [if_neg c] at z2
      have e1 := p5 j w z1 z2
      exact (ADD_lo (p1 _ _ e1)).trans e1
def xN (a b c e f g i : Value) (z : Int) : va_E := oB 0 [a, b, c, e, f, vI 0, vI 0, vI z, g, i, vI 0]
theorem at_aR {D : va_G} {m a : Nat} {t : Nat} {g g' : Int → Option Nat} {H : Heap} (h : ∀ j : Int, 0 ≤ j → j < m → g j = g' j) (z : va_at D vwCl (a, aR E t m g) H) : va_at D vwCl (a, aR E t m g') H := by
  have z : H[a]? = some (vp_cell (E.2.1 t) (m, .inr (.inr (.inr (.inr (fun j => g (j : Int))))))) := z
  show H[a]? = some (vp_cell (E.2.1 t) (m, .inr (.inr (.inr (.inr (fun j => g' (j : Int)))))))
  rw [z, vp_cell_q, vp_cell_q]
  congr 1
  refine arr_ext fun j hj => ?_
  rw [h j (by omega) (by omega)]
/-- the slots, one by one -/
theorem l_slots {Q : Outcome → gH → Prop} {CB : Nat → Option va_E} (kk : ∀ k C, PX E x 230 bk (xO x 0 0 (-1) 0) C k → C 1 = some (aR E 7 4 (fun s => some (x + 226 + s.toNat))) → (∀ i : Nat, i < 4 → C (226 + i) = some (oB 6 [.null])) → (∀ j, 119 ≤ j → j < 226 → C j = CB j) → GO E iX0_init (d + 2) 0 0 96 [some (.ref x), some (vI 4)] [] k Q) : ∀ (f : Nat) (s : Nat) (C : Nat → Option va_E) (g : Int → Option Nat) (k : gH), s + f = 4 → PX E x (226 + s) bk (xO x 0 0 (-1) 0) C k → C 1 = some (aR E 7 4 g) → (∀ i : Nat, i < s → g i = some (x + 226 + i) ∧ C (226 + i) = some (oB 6 [.null])) → (∀ j, 119 ≤ j → j < 226 → C j = CB j) →
    GO E iX0_init (d + 2) f f 72 [some (.ref x), some (vI s)] [] k Q := by
  intro f
  induction f with
  | zero =>
    intro s C g k e hP h1 h2 h3
    obtain rfl : s = 4 := by omega
    have hr := hP.2.2.2.2.2 1 _ (by decide) h1
    refine GO.heapx (h' := hset k (x + 1) (aR E 7 4 (fun s => some (x + 226 + s.toNat)))) (fun H hR => hR.ext rfl fun a y ha => ?_) ?_
    · by_cases c : a = x + 1
      · subst c
        have ha : some (aR E 7 4 (fun s => some (x + 226 + s.toNat))) = some y := hset_at.symm.trans ha
        cases ha
        refine ⟨_, hr, fun z => at_aR (fun j z1 z2 => ?_) z⟩
        have := (h2 j.toNat (by omega)).1
        rw [Int.toNat_of_nonneg z1] at this
        exact this
      · rw [hset_ne c] at ha
        exact ⟨y, ha, id⟩
    · have hP2 := PX.row (v := aR E 7 4 (fun s => some (x + 226 + s.toNat))) hP ⟨_, h1⟩
      refine g_iload_n (q := 73) dX0_init_72 rfl rfl ?_
      refine g_iconst (q := 74) dX0_init_73 rfl ?_
      refine g_icmp_ge (t := 96) (q := 77) dX0_init_74 (by decide) rfl (by first | assumption | exact in32_gB | exact in32_gCmp | (unfold in32; omega)) (by first | assumption | exact in32_gB | exact in32_gCmp | (unfold in32; omega)) (fun c74 => ?_) (fun c74 => ?_)
      · refine kk _ _ hP2 (by unfold upC; rw [if_pos rfl]) (fun i hi => ?_) (fun j z1 z2 => ?_)
        · unfold upC; rw [if_neg (by omega)]; exact (h2 i hi).2
        · unfold upC; rw [if_neg (by omega)]; exact h3 j z1 z2
      · exact absurd c74 (by omega)
  | succ f ih =>
    intro s C g k e hP h1 h2 h3
    have hx := hP.2.2.2.1
    have hr := hP.2.2.2.2.2 1 _ (by decide) h1
    have e2 := hP.2.1
    have hr2 : (hnew k (oB 6 [.null])).1 (x + 1) = some (aR E 7 4 g) := (hnew_ne (by omega)).trans hr
    have hP2 := PX.row (v := aR E 7 4 (upI g s (some k.2))) (PX.new (v := oB 6 [.null]) hP) ⟨aR E 7 4 g, by unfold upC; rw [if_neg (by omega)]; exact h1⟩
    refine g_iload_n (q := 73) dX0_init_72 rfl rfl ?_
    refine g_iconst (q := 74) dX0_init_73 rfl ?_
    refine g_icmp_ge (t := 96) (q := 77) dX0_init_74 (by decide) rfl (by first | assumption | exact in32_gB | exact in32_gCmp | (unfold in32; omega)) (by first | assumption | exact in32_gB | exact in32_gCmp | (unfold in32; omega)) (fun c74 => ?_) (fun c74 => ?_)
    · exact absurd c74 (by omega)
    · refine g_aload_n (q := 78) dX0_init_77 rfl rfl ?_
      refine g_get (C := RX0) (T := TX0) (ci := 0) (k := 0) (q := 81) dX0_init_78 q518 rfl in_X0 (by decide) hx rfl rfl ?_
      refine g_iload_n (q := 82) dX0_init_81 rfl rfl ?_
      refine g_new (C := RX5) (T := TX5) (N := 1) (ci := 6) (fs := [.null]) (q := 85) dX0_init_82 q329 q283 q92 rfl in_X5 tyX5_ok (by decide) rfl ?_
      refine g_dup (q := 86) dX0_init_85 rfl ?_
      refine g_ciN (I' := iX5_init) (mc := 0) (ms := 0) (rc := f) (rs := f) (q := 89) dX0_init_86 q509 q510 rfl q511 gcX5_init (c_slot0) rfl rfl ?_
      refine g_aast (q := 90) dX0_init_89 hr2 rfl (gAny.self (ci := 6) hnew_at rfl) (by omega) (by omega) rfl ?_
      refine g_iinc (q := 93) dX0_init_90 rfl gs1 rfl ?_
      refine g_goto (t := 72) dX0_init_93 (by decide) ?_
      have z := ih (s + 1) _ (upI g s (some k.2)) _ (by omega) hP2 (by unfold upC; rw [if_pos rfl]) (fun i hi => ?_) (fun j z1 z2 => ?_)
      · exact z
      · by_cases c : i = s
        · subst c
          refine ⟨?_, ?_⟩
          · rw [upI_at, e2]; congr 1; omega
          · unfold upC; rw [if_neg (by omega), if_pos rfl]
        · refine ⟨?_, ?_⟩
          · rw [upI_ne (by omega)]; exact (h2 i (by omega)).1
          · unfold upC; rw [if_neg (by omega), if_neg (by omega)]; exact (h2 i (by omega)).2
      · unfold upC; rw [if_neg (by omega), if_neg (by omega)]; exact h3 j z1 z2

theorem PX.first (hh : HW h) : PX E h.2 119 bk (xN (.ref (h.2 + 1)) .null .null .null .null .null .null (0)) (upC (fun _ => none) 1 (aR E 7 4 (fun _ => none))) (ADD (app (app h [(xN (.ref (h.2 + 1)) .null .null .null .null .null .null (0)), aR E 7 4 (fun _ => none)]) (st14 E (h.2 + 2) (fsO (h.2 + 2)))) 103 (hdF E (h.2 + 2 + 14) (some (h.2 + 2 + 1)) (fun _ => 0) (akO 0 0 0 0 0))) := by
  have hh2 : HW (app h [(xN (.ref (h.2 + 1)) .null .null .null .null .null .null (0)), aR E 7 4 (fun _ => none)]) := hh.ap
  refine ⟨hh2.add, rfl, by decide, ?_, st_fresh (h := app h [(xN (.ref (h.2 + 1)) .null .null .null .null .null .null (0)), aR E 7 4 (fun _ => none)]) owX_st, fun j v z1 z2 => ?_⟩
  · rw [ADD_lo (show h.2 < h.2 + 2 + 14 by omega), app_lo (show h.2 < h.2 + 2 by omega)]
    exact app_at (k := 0) rfl
  · unfold upC at z2
    by_cases c : j = 1
    · subst c
      rw [if_pos rfl] at z2
      rw [ADD_lo (show h.2 + 1 < h.2 + 2 + 14 by omega), app_lo (show h.2 + 1 < h.2 + 2 by omega), ← z2]
      exact app_at (k := 1) rfl
    · rw [if_neg c] at z2; cases z2
theorem c_xinit (hh : HW h) (hiS : ∀ j, 0 ≤ j → j < 3 → iS j = -1) (hmy : ∀ j, 0 ≤ j → j < 4 → my j = -1) : CALL E iX0_init (d + 5) 229 5835 [.ref h.2] (app h [(xN .null .null .null .null .null .null .null (0))]) (qVP fun k => k.2 = h.2 + 230 ∧ HW k ∧ X_C E (owX h.2) k h.2 (fun _ => 0) 0 0 (-1) ∧ STT E (owX h.2) k 0 (h.2 + 2) (fun _ => 0) (fun _ => 0) 0 0 bk ∧ X_I E (owX h.2) k h.2 uW uH uB iL iS ∧ X_P E (owX h.2) k h.2 ∧ X_S E (owX h.2) k h.2 my wd uN) := by
  show GO E iX0_init _ _ _ 0 [some (.ref h.2), none] [] _ _
  refine g_aload_n (q := 1) dX0_init_0 rfl rfl ?_
  refine g_objInit (q := 4) dX0_init_1 q328 rfl ?_
  refine g_aload_n (q := 5) dX0_init_4 rfl rfl ?_
  refine g_iconst (q := 6) dX0_init_5 rfl ?_
  refine g_anew (i := 4) (q := 9) (rc := 228) (rs := 5831) (t0 := 7) dX0_init_6 q329 q330 rfl (by decide) (by decide) rfl ?_
  refine GO.cast (h' := app h [(xN .null .null .null .null .null .null .null (0)), aR E 7 4 (fun _ => none)]) app_new ?_
  refine g_putF (C := RX0) (T := TX0) (ci := 0) (k := 0) (q := 12) dX0_init_9 q518 rfl in_X0 tyX0_ok nmX0 (by decide) rfl rfl rfl gFit_a (app_at (k := 0) rfl) (Nat.le_of_ble_eq_true rfl) rfl ?_
  refine GO.cast (h' := app h [(xN (.ref (h.2 + 1)) .null .null .null .null .null .null (0)), aR E 7 4 (fun _ => none)]) (app_set (k := 0) rfl) ?_
  refine g_aload_n (q := 13) dX0_init_12 rfl rfl ?_
  refine g_new (C := RX1) (T := TX1) (N := 7) (ci := 1) (fs := [.null, .null, .null, .null, .null, vI 0, vI 0]) (q := 16) dX0_init_13 q331 q332 q85 rfl in_X1 tyX1_ok (by decide) rfl ?_
  refine GO.cast app_one ?_
  refine g_dup (q := 17) dX0_init_16 rfl ?_
  refine g_ci (I' := iX1_init) (mc := 116) (ms := 2495) (rc := 111) (rs := 3329) (q := 20) dX0_init_17 q333 q334 rfl q335 gcX1_init (c_sinit) rfl rfl ?_
  refine GO.gen (PX E h.2 119 bk (xN (.ref (h.2 + 1)) .null .null .null .null .null .null (0)) (upC (fun _ => none) 1 (aR E 7 4 (fun _ => none)))) (PX.first hh) ?_
  intro k1 hP1
  refine g_putF (C := RX0) (T := TX0) (ci := 0) (k := 1) (q := 23) dX0_init_20 q519 rfl in_X0 tyX0_ok nmX0 (by decide) rfl rfl rfl gFit_o hP1.2.2.2.1 (Nat.le_of_ble_eq_true rfl) rfl ?_
  refine GO.gen (PX E h.2 119 bk (xN (.ref (h.2 + 1)) (.ref (h.2 + 2)) .null .null .null .null .null (0)) (upC (fun _ => none) 1 (aR E 7 4 (fun _ => none)))) (PX.set hP1) ?_
  intro k2 hP2
  refine g_aload_n (q := 24) dX0_init_23 rfl rfl ?_
  refine g_iconst (q := 25) dX0_init_24 rfl ?_
  refine g_anew (i := 3) (q := 28) (rc := 110) (rs := 3326) (t0 := 10) dX0_init_25 q331 q506 rfl (by decide) (by decide) rfl ?_
  refine GO.gen (PX E h.2 120 bk (xN (.ref (h.2 + 1)) (.ref (h.2 + 2)) .null .null .null .null .null (0)) (upC (upC (fun _ => none) 1 (aR E 7 4 (fun _ => none))) 119 (aR E 10 3 (fun _ => none)))) (PX.new hP2) ?_
  intro k3 hP3
  rw [hP2.2.1]
  refine g_putF (C := RX0) (T := TX0) (ci := 0) (k := 2) (q := 31) dX0_init_28 q520 rfl in_X0 tyX0_ok nmX0 (by decide) rfl rfl rfl gFit_a hP3.2.2.2.1 (Nat.le_of_ble_eq_true rfl) rfl ?_
  refine GO.gen (PX E h.2 120 bk (xN (.ref (h.2 + 1)) (.ref (h.2 + 2)) (.ref (h.2 + 119)) .null .null .null .null (0)) (upC (upC (fun _ => none) 1 (aR E 7 4 (fun _ => none))) 119 (aR E 10 3 (fun _ => none)))) (PX.set hP3) ?_
  intro k4 hP4
  refine g_aload_n (q := 32) dX0_init_31 rfl rfl ?_
  refine g_new (C := RX3) (T := TX3) (N := 5) (ci := 4) (fs := [.null, .null, .null, vI 0, vI 0]) (q := 35) dX0_init_32 q507 q414 q90 rfl in_X3 tyX3_ok (by decide) rfl ?_
  refine GO.cast ADD_one ?_
  refine g_dup (q := 36) dX0_init_35 rfl ?_
  refine g_ciN (I' := iX3_init) (mc := 102) (ms := 2409) (rc := 7) (rs := 912) (q := 39) dX0_init_36 q508 q416 rfl q417 gcX3_init (c_hinit) rfl rfl ?_
  refine GO.gen (PX E h.2 223 bk (xN (.ref (h.2 + 1)) (.ref (h.2 + 2)) (.ref (h.2 + 119)) .null .null .null .null (0)) (hdC E (upC (upC (fun _ => none) 1 (aR E 7 4 (fun _ => none))) 119 (aR E 10 3 (fun _ => none))) h.2 120)) (PX.head hP4) ?_
  intro k5 hP5
  rw [hP4.2.1]
  refine g_putF (C := RX0) (T := TX0) (ci := 0) (k := 3) (q := 42) dX0_init_39 q521 rfl in_X0 tyX0_ok nmX0 (by decide) rfl rfl rfl gFit_o hP5.2.2.2.1 (Nat.le_of_ble_eq_true rfl) rfl ?_
  refine GO.gen (PX E h.2 223 bk (xN (.ref (h.2 + 1)) (.ref (h.2 + 2)) (.ref (h.2 + 119)) (.ref (h.2 + 120)) .null .null .null (0)) (hdC E (upC (upC (fun _ => none) 1 (aR E 7 4 (fun _ => none))) 119 (aR E 10 3 (fun _ => none))) h.2 120)) (PX.set hP5) ?_
  intro k6 hP6
  refine g_aload_n (q := 43) dX0_init_42 rfl rfl ?_
  refine g_sipush (q := 46) dX0_init_43 rfl ?_
  refine g_newaB (q := 48) (i := 900) (rc := 6) (rs := 12) dX0_init_46 q220 (by decide) (by decide) rfl ?_
  refine GO.gen (PX E h.2 224 bk (xN (.ref (h.2 + 1)) (.ref (h.2 + 2)) (.ref (h.2 + 119)) (.ref (h.2 + 120)) .null .null .null (0)) (upC (hdC E (upC (upC (fun _ => none) 1 (aR E 7 4 (fun _ => none))) 119 (aR E 10 3 (fun _ => none))) h.2 120) 223 (aB E 900 (fun _ => 0)))) (PX.new hP6) ?_
  intro k7 hP7
  rw [hP6.2.1]
  refine g_putF (C := RX0) (T := TX0) (ci := 0) (k := 4) (q := 51) dX0_init_48 q522 rfl in_X0 tyX0_ok nmX0 (by decide) rfl rfl rfl gFit_a hP7.2.2.2.1 (Nat.le_of_ble_eq_true rfl) rfl ?_
  refine GO.gen (PX E h.2 224 bk (xN (.ref (h.2 + 1)) (.ref (h.2 + 2)) (.ref (h.2 + 119)) (.ref (h.2 + 120)) (.ref (h.2 + 223)) .null .null (0)) (upC (hdC E (upC (upC (fun _ => none) 1 (aR E 7 4 (fun _ => none))) 119 (aR E 10 3 (fun _ => none))) h.2 120) 223 (aB E 900 (fun _ => 0)))) (PX.set hP7) ?_
  intro k8 hP8
  refine g_aload_n (q := 52) dX0_init_51 rfl rfl ?_
  refine g_iconst (q := 53) dX0_init_52 rfl ?_
  refine g_put (C := RX0) (T := TX0) (ci := 0) (k := 7) (q := 56) dX0_init_53 q525 rfl in_X0 tyX0_ok nmX0 (by decide) rfl gFit_int hP8.2.2.2.1 (Nat.le_of_ble_eq_true rfl) rfl ?_
  refine GO.gen (PX E h.2 224 bk (xN (.ref (h.2 + 1)) (.ref (h.2 + 2)) (.ref (h.2 + 119)) (.ref (h.2 + 120)) (.ref (h.2 + 223)) .null .null (-1)) (upC (hdC E (upC (upC (fun _ => none) 1 (aR E 7 4 (fun _ => none))) 119 (aR E 10 3 (fun _ => none))) h.2 120) 223 (aB E 900 (fun _ => 0)))) (PX.set hP8) ?_
  intro k9 hP9
  refine g_aload_n (q := 57) dX0_init_56 rfl rfl ?_
  refine g_iconst (q := 58) dX0_init_57 rfl ?_
  refine g_newaI (q := 60) (i := 4) (rc := 5) (rs := 8) dX0_init_58 q226 (by decide) (by decide) rfl ?_
  refine GO.gen (PX E h.2 225 bk (xN (.ref (h.2 + 1)) (.ref (h.2 + 2)) (.ref (h.2 + 119)) (.ref (h.2 + 120)) (.ref (h.2 + 223)) .null .null (-1)) (upC (upC (hdC E (upC (upC (fun _ => none) 1 (aR E 7 4 (fun _ => none))) 119 (aR E 10 3 (fun _ => none))) h.2 120) 223 (aB E 900 (fun _ => 0))) 224 (aI E 4 (fun _ => 0)))) (PX.new hP9) ?_
  intro k10 hP10
  rw [hP9.2.1]
  refine g_putF (C := RX0) (T := TX0) (ci := 0) (k := 8) (q := 63) dX0_init_60 q526 rfl in_X0 tyX0_ok nmX0 (by decide) rfl rfl rfl gFit_a hP10.2.2.2.1 (Nat.le_of_ble_eq_true rfl) rfl ?_
  refine GO.gen (PX E h.2 225 bk (xN (.ref (h.2 + 1)) (.ref (h.2 + 2)) (.ref (h.2 + 119)) (.ref (h.2 + 120)) (.ref (h.2 + 223)) (.ref (h.2 + 224)) .null (-1)) (upC (upC (hdC E (upC (upC (fun _ => none) 1 (aR E 7 4 (fun _ => none))) 119 (aR E 10 3 (fun _ => none))) h.2 120) 223 (aB E 900 (fun _ => 0))) 224 (aI E 4 (fun _ => 0)))) (PX.set hP10) ?_
  intro k11 hP11
  refine g_aload_n (q := 64) dX0_init_63 rfl rfl ?_
  refine g_iconst (q := 65) dX0_init_64 rfl ?_
  refine g_newaI (q := 67) (i := 4) (rc := 4) (rs := 4) dX0_init_65 q226 (by decide) (by decide) rfl ?_
  refine GO.gen (PX E h.2 226 bk (xN (.ref (h.2 + 1)) (.ref (h.2 + 2)) (.ref (h.2 + 119)) (.ref (h.2 + 120)) (.ref (h.2 + 223)) (.ref (h.2 + 224)) .null (-1)) (upC (upC (upC (hdC E (upC (upC (fun _ => none) 1 (aR E 7 4 (fun _ => none))) 119 (aR E 10 3 (fun _ => none))) h.2 120) 223 (aB E 900 (fun _ => 0))) 224 (aI E 4 (fun _ => 0))) 225 (aI E 4 (fun _ => 0)))) (PX.new hP11) ?_
  intro k12 hP12
  rw [hP11.2.1]
  refine g_putF (C := RX0) (T := TX0) (ci := 0) (k := 9) (q := 70) dX0_init_67 q527 rfl in_X0 tyX0_ok nmX0 (by decide) rfl rfl rfl gFit_a hP12.2.2.2.1 (Nat.le_of_ble_eq_true rfl) rfl ?_
  refine GO.gen (PX E h.2 226 bk (xN (.ref (h.2 + 1)) (.ref (h.2 + 2)) (.ref (h.2 + 119)) (.ref (h.2 + 120)) (.ref (h.2 + 223)) (.ref (h.2 + 224)) (.ref (h.2 + 225)) (-1)) (upC (upC (upC (hdC E (upC (upC (fun _ => none) 1 (aR E 7 4 (fun _ => none))) 119 (aR E 10 3 (fun _ => none))) h.2 120) 223 (aB E 900 (fun _ => 0))) 224 (aI E 4 (fun _ => 0))) 225 (aI E 4 (fun _ => 0)))) (PX.set hP12) ?_
  intro k13 hP13
  refine g_iconst (q := 71) dX0_init_70 rfl ?_
  refine g_istore_n (q := 72) dX0_init_71 gs1 rfl ?_
  refine l_slots (CB := (upC (upC (upC (hdC E (upC (upC (fun _ => none) 1 (aR E 7 4 (fun _ => none))) 119 (aR E 10 3 (fun _ => none))) h.2 120) 223 (aB E 900 (fun _ => 0))) 224 (aI E 4 (fun _ => 0))) 225 (aI E 4 (fun _ => 0)))) (fun k C hP h1 h2 h3 => ?_) 4 0 _ (fun _ => none) k13 rfl hP13 rfl (fun i hi => absurd hi (by omega)) (fun j _ _ => rfl)
  have hv : ∀ j w, 119 ≤ j → j < 226 → C j = some w → k.1 (h.2 + j) = some w := fun j w z1 z2 z3 => hP.2.2.2.2.2 j w (by omega) z3
  have c1 := hP.2.2.2.2.2 1 _ (by decide) h1
  have c119 := hv 119 _ (by decide) (by decide) (h3 119 (by decide) (by decide))
  have c223 := hv 223 _ (by decide) (by decide) (h3 223 (by decide) (by decide))
  have c224 := hv 224 _ (by decide) (by decide) (h3 224 (by decide) (by decide))
  have c225 := hv 225 _ (by decide) (by decide) (h3 225 (by decide) (by decide))
  have cH : ∀ j, j < 103 → k.1 (h.2 + 120 + j) = some (hdF E (h.2 + 120) none (fun _ => 0) (akO 0 0 0 0 0) j) := fun j hj => by
    have e1 := h3 (120 + j) (by omega) (by omega)
    unfold upC hdC at e1
    rw [if_neg (by omega), if_neg (by omega), if_neg (by omega), if_pos (by omega), Nat.add_sub_cancel_left] at e1
    rw [Nat.add_assoc]
    exact hv (120 + j) _ (by omega) (by omega) e1
  have o1 : ∀ b, b < h.2 + 2 → owX h.2 b = 1 := fun b z => if_pos z
  have o2 : ∀ b, h.2 + 223 ≤ b → b < h.2 + 226 → owX h.2 b = 1 := fun b z1 z2 => by unfold owX; rw [if_neg (by omega), if_neg (by omega), if_neg (by omega), if_neg (by omega), if_pos (by omega)]
  have oI : owX h.2 (h.2 + 119) = 8 := by unfold owX; rw [if_neg (by omega), if_neg (by omega), if_pos (by omega)]
  have oP : OWN (owX h.2) (h.2 + 120) 103 2 := fun j hj => by unfold owX; rw [if_neg (by omega), if_neg (by omega), if_neg (by omega), if_pos (by omega)]
  refine g_vret dX0_init_96 rfl ⟨rfl, hP.2.1, hP.1, ⟨⟨o1 _ (by omega), o1 _ (by omega), o2 _ (by omega) (by omega), o2 _ (by omega) (by omega), o2 _ (by omega) (by omega)⟩, 0, fun _ => 0, fun _ => 0, fun _ => 0, hP.2.2.2.1, c1, c223, c224, c225, in32_0, fun _ _ _ => rfl⟩, hP.2.2.2.2.1, ⟨oI, fun _ => none, c119, fun j z1 z2 => hiS j z1 z2⟩, ⟨oP, none, fun _ => 0, 0, 0, 0, 0, 0, cH⟩, fun s z1 z2 => ?_⟩
  have e0 : ((s.toNat : Nat) : Int) = s := Int.toNat_of_nonneg z1
  refine ⟨by unfold owX; rw [if_neg (by omega), if_neg (by omega), if_neg (by omega), if_neg (by omega), if_neg (by omega), if_pos (by omega)]; omega, Or.inl ⟨hmy s z1 z2, ?_⟩⟩
  have := hP.2.2.2.2.2 (226 + s.toNat) _ (by omega) (h2 s.toNat (by omega))
  rw [Nat.add_assoc]
  exact this
end
