/-! THE COMPONENT: plans -/
set_option maxRecDepth 100000
/-- the head after n days of a plan -/
def lvE (w : Int → Int) (kn r : Int) (pl : Int → Int) (hs : Int → Int) : Nat → Int → Int
  | 0 => hs
  | n + 1 => plH w (-1) kn r (pl n) (lvE w kn r pl hs n)
def cdE (pl : Int → Int) : Nat → Int
  | 0 => 0
  | n + 1 => 10 * cdE pl n + pl n
theorem lvE_ext {w : Int → Int} {kn r : Int} {pl pl' hs : Int → Int} : ∀ (n : Nat), (∀ j : Int, 0 ≤ j → j < n → pl' j = pl j) → lvE w kn r pl' hs n = lvE w kn r pl hs n := by
  intro n
  induction n with
  | zero => intro _; rfl
  | succ n ih =>
    intro h
    show plH w (-1) kn r (pl' n) _ = plH w (-1) kn r (pl n) _
    rw [ih (fun j q1 q2 => h j q1 (by omega)), h n (by omega) (by omega)]
theorem cdE_ext {pl pl' : Int → Int} : ∀ (n : Nat), (∀ j : Int, 0 ≤ j → j < n → pl' j = pl j) → cdE pl' n = cdE pl n := by
  intro n
  induction n with
  | zero => intro _; rfl
  | succ n ih =>
    intro h
    show 10 * cdE pl' n + pl' n = 10 * cdE pl n + pl n
    rw [ih (fun j q1 q2 => h j q1 (by omega)), h n (by omega) (by omega)]
theorem lvE_ok {B : Int} {w : Int → Int} {kn r : Int} {pl hs : Int → Int} (hw : WFw w) (hr : 0 ≤ r) (hr1 : r < w 2) (hB : 0 ≤ B) (h : HSok B hs) : ∀ (n : Nat), (∀ j : Int, 0 ≤ j → j < n → 0 ≤ pl j ∧ pl j ≤ 8) → HSok (B + 32 * n) (lvE w kn r pl hs n) := by
  intro n
  induction n with
  | zero => intro _; exact h.mono (by omega)
  | succ n ih =>
    intro hp
    exact ((ih (fun j q1 q2 => hp j q1 (by omega))).plH hw hr hr1 (by omega) (hp n (by omega) (by omega)).1 (hp n (by omega) (by omega)).2).mono (by omega)
theorem cdE_pos {pl : Int → Int} : ∀ (n : Nat), (∀ j : Int, 0 ≤ j → j < n → 0 ≤ pl j) → 0 ≤ cdE pl n := by
  intro n
  induction n with
  | zero => intro _; exact Int.le_refl 0
  | succ n ih =>
    intro h
    have := ih (fun j q1 q2 => h j q1 (by omega))
    have := h n (by omega) (by omega)
    show 0 ≤ 10 * cdE pl n + pl n
    omega
/-- what the reference's best and the component's have to do with each other -/
def BST (days : Nat) (st : Int × Int) (bp : Int → Int) (bl : Int) : Prop := (st.1 = -1 ∧ bl = -1) ∨ (st.1 = cdE bp days ∧ st.2 = bl ∧ 0 ≤ bl ∧ st.1 ≠ -1)
theorem plD_pos {w : Int → Int} {kl kn r : Int} : ∀ (D : Nat) (left dg : Int) (hs : Int → Int) (st : Int × Int), 0 ≤ left → 0 ≤ dg → (plD w kl kn r D left dg hs st).1 ≠ -1 ∧ (st.1 ≠ -1 → True) := by
  intro D
  induction D with
  | zero =>
    intro left dg hs st h0 h1
    refine ⟨?_, fun _ => trivial⟩
    show (plE _ _ _ _).1 ≠ -1
    unfold plE
    split
    · show 10 * dg + left ≠ -1; omega
    · rename_i c; exact fun z => c (Or.inl z)
  | succ D ih =>
    intro left dg hs st h0 h1
    refine ⟨?_, fun _ => trivial⟩
    show (plN _ (left + 1).toNat left st).1 ≠ -1
    have key : ∀ (f : Nat) (n : Int) (st : Int × Int), 0 < f → n + 1 = f → n ≤ left → (plN (fun n st => plD w kl kn r D (left - n) (10 * dg + n) (plH w kl kn r n hs) st) f n st).1 ≠ -1 := by
      intro f
      induction f with
      | zero => intro n st q; omega
      | succ f ihf =>
        intro n st q1 q2 q3
        show (plN _ f (n - 1) (plD w kl kn r D (left - n) (10 * dg + n) (plH w kl kn r n hs) st)).1 ≠ -1
        by_cases z : f = 0
        · subst z; exact (ih (left - n) (10 * dg + n) _ st (by omega) (by omega)).1
        · exact ihf (n - 1) _ (by omega) (by omega) (by omega)
    exact key _ left st (by omega) (by omega) (by omega)
section
variable {E : gE} {d rc rs x : Nat} {mf : Nat → va_E} {ow : OW} {h : gH} {w hs bk tp iL iS my wd : Int → Int} {uW uH uB uN : Int → Int → Int} {si lo td fk fp : Int}
variable {r v n B kn i s l c b a e days day left bl : Int} {ra t p : Nat} {k h' : gH} {pl bp hs1 : Int → Int} {Q : Outcome → gH → Prop}
def XPL (E : gE) (h : gH) (x : Nat) (td fk fp bl : Int) (pl bp : Int → Int) : Prop := h.1 x = some (xO x td fk fp bl) ∧ h.1 (x + 224) = some (aI E 4 pl) ∧ h.1 (x + 225) = some (aI E 4 bp)
theorem XPL.of (hX : (XR E x mf ow h w hs si lo bk uW uH uB iL iS tp td fk fp my wd uN)) : ∃ bl pl bp, in32 bl ∧ XPL E h x td fk fp bl pl bp := by
  obtain ⟨-, -, ⟨-, bl, tq, pl, bp, c1, c2, c3, c4, c5, r1, -⟩, -⟩ := hX
  exact ⟨bl, pl, bp, r1, c1, c4, c5⟩
theorem XPL.paper (hL : XPL E h x td fk fp bl pl bp) (hk : hHx E h (x + 120) t hs1 k) : XPL E k x td fk fp bl pl bp := by
  obtain ⟨h1, e1, t1, o1, b1, rfl⟩ := hk
  exact ⟨(blk_out (by omega)).trans hL.1, (blk_out (by omega)).trans hL.2.1, (blk_out (by omega)).trans hL.2.2⟩
theorem XPL.setp {g : Int → Int} (hL : XPL E h x td fk fp bl pl bp) : XPL E (hset h (x + 224) (aI E 4 g)) x td fk fp bl g bp := ⟨(hset_ne (by omega)).trans hL.1, hset_at, (hset_ne (by omega)).trans hL.2.2⟩
theorem XPL.setb {g : Int → Int} (hL : XPL E h x td fk fp bl pl bp) : XPL E (hset h (x + 225) (aI E 4 g)) x td fk fp bl pl g := ⟨(hset_ne (by omega)).trans hL.1, (hset_ne (by omega)).trans hL.2.1, hset_at⟩
theorem XPL.setl {g : Int} (hL : XPL E h x td fk fp bl pl bp) : XPL E (hset h x (xO x td fk fp g)) x td fk fp g pl bp := ⟨hset_at, (hset_ne (by omega)).trans hL.2.1, (hset_ne (by omega)).trans hL.2.2⟩
theorem XR.setp {g : Int → Int} (hX : (XR E x mf ow h w hs si lo bk uW uH uB iL iS tp td fk fp my wd uN)) : (XR E x mf ow (hset h (x + 224) (aI E 4 g)) w hs si lo bk uW uH uB iL iS tp td fk fp my wd uN) := by
  obtain ⟨x1, x2, ⟨⟨w1, w2, w3, w4, w5⟩, bl, tq, pl, bp, c1, c2, c3, c4, c5, r1, r2⟩, -⟩ := id hX
  exact hX.core (x1.set c4) (FR.set w4) ⟨⟨w1, w2, w3, w4, w5⟩, bl, tq, g, bp, (hset_ne (by omega)).trans c1, (hset_ne (by omega)).trans c2, (hset_ne (by omega)).trans c3, hset_at, (hset_ne (by omega)).trans c5, r1, r2⟩
theorem XR.setb {g : Int → Int} (hX : (XR E x mf ow h w hs si lo bk uW uH uB iL iS tp td fk fp my wd uN)) : (XR E x mf ow (hset h (x + 225) (aI E 4 g)) w hs si lo bk uW uH uB iL iS tp td fk fp my wd uN) := by
  obtain ⟨x1, x2, ⟨⟨w1, w2, w3, w4, w5⟩, bl, tq, pl, bp, c1, c2, c3, c4, c5, r1, r2⟩, -⟩ := id hX
  exact hX.core (x1.set c5) (FR.set w5) ⟨⟨w1, w2, w3, w4, w5⟩, bl, tq, pl, g, (hset_ne (by omega)).trans c1, (hset_ne (by omega)).trans c2, (hset_ne (by omega)).trans c3, (hset_ne (by omega)).trans c4, hset_at, r1, r2⟩
/-- a day's readings on paper, head at 15 -/
theorem l_lv1 (hX : (XR E x mf ow h w hs si lo bk uW uH uB iL iS tp td fk fp my wd uN)) (hP : PP E x mf ow h t w td fk fp) (hL : XPL E h x td fk fp bl pl bp) (hw : WFw w) (hkn : in32 kn) (hr : 0 ≤ r) (hr1 : r < w 2) (hd : 0 ≤ day ∧ day < 4) (hp : 0 ≤ pl day ∧ pl day ≤ 8) (hdy : in32 days) :
    ∀ (f : Nat) (j B : Int) (hs1 : Int → Int) (k : gH), 0 ≤ j → j + f = pl day → HSok B hs1 → 0 ≤ B → B + f ≤ 800000000 → HZ w hs1 → hHx E h (x + 120) t hs1 k →
    (∀ k', HZ w (mRdN w (-1) kn r f hs1) → hHx E h (x + 120) t (mRdN w (-1) kn r f hs1) k' → GO E iX0_leavesBy (d + 1303) 0 0 44 [some (.ref x), some (vI r), some (vI days), some (vI day), some (vI (pl day))] [] k' Q) →
    GO E iX0_leavesBy (d + 1303) 0 0 15 [some (.ref x), some (vI r), some (vI days), some (vI day), some (vI j)] [] k Q := by
  intro f
  induction f with
  | zero =>
    intro j B hs1 k h0 h1 hh hB0 hB hZ hk kk
    obtain rfl : j = pl day := by omega
    have hL1 := hL.paper hk
    refine g_iload (q := 17) dX0_leavesBy_15 rfl rfl ?_
    refine g_aload_n (q := 18) dX0_leavesBy_17 rfl rfl ?_
    refine g_get (C := RX0) (T := TX0) (ci := 0) (k := 8) (q := 21) dX0_leavesBy_18 q526 rfl in_X0 (by decide) hL1.1 rfl rfl ?_
    refine g_iload_n (q := 22) dX0_leavesBy_21 rfl rfl ?_
    refine g_iald (q := 23) dX0_leavesBy_22 hL1.2.1 (by omega) (by omega) rfl ?_
    refine g_icmp_ge (t := 44) (q := 26) dX0_leavesBy_23 (by decide) rfl (by first | assumption | exact in32_gB | exact in32_gCmp | (unfold in32; omega)) (by first | assumption | exact in32_gB | exact in32_gCmp | (unfold in32; omega)) (fun c23 => ?_) (fun c23 => ?_)
    · exact kk _ hZ hk
    · exact absurd c23 (by omega)
  | succ f ih =>
    intro j B hs1 k h0 h1 hh hB0 hB hZ hk kk
    have hL1 := hL.paper hk
    have hh2 := hh.reads (kl := -1) (kn := kn) hw hr hr1
    refine g_iload (q := 17) dX0_leavesBy_15 rfl rfl ?_
    refine g_aload_n (q := 18) dX0_leavesBy_17 rfl rfl ?_
    refine g_get (C := RX0) (T := TX0) (ci := 0) (k := 8) (q := 21) dX0_leavesBy_18 q526 rfl in_X0 (by decide) hL1.1 rfl rfl ?_
    refine g_iload_n (q := 22) dX0_leavesBy_21 rfl rfl ?_
    refine g_iald (q := 23) dX0_leavesBy_22 hL1.2.1 (by omega) (by omega) rfl ?_
    refine g_icmp_ge (t := 44) (q := 26) dX0_leavesBy_23 (by decide) rfl (by first | assumption | exact in32_gB | exact in32_gCmp | (unfold in32; omega)) (by first | assumption | exact in32_gB | exact in32_gCmp | (unfold in32; omega)) (fun c23 => ?_) (fun c23 => ?_)
    · exact absurd c23 (by omega)
    · refine g_aload_n (q := 27) dX0_leavesBy_26 rfl rfl ?_
      refine g_get (C := RX0) (T := TX0) (ci := 0) (k := 3) (q := 30) dX0_leavesBy_27 q521 rfl in_X0 (by decide) hL1.1 rfl rfl ?_
      refine g_aload_n (q := 31) dX0_leavesBy_30 rfl rfl ?_
      refine g_iload_n (q := 32) dX0_leavesBy_31 rfl rfl ?_
      refine g_cvP (I' := iX0_rowAt) (mc := 0) (ms := 0) (rc := 0) (rs := 0) (ci := 0) (q := 35) dX0_leavesBy_32 q992 q994 rfl qs28 gcX0_rowAt hL1.1 (GO.deep (c_pRow (d := 0) hX hP hk hr hr1) (by omega)) rfl rfl (fun v32 k32 z32 => ?_)
      obtain ⟨ra, rfl, hR, rfl⟩ := z32
      refine g_cvVP (I' := iX3_reads) (mc := 0) (ms := 0) (rc := 0) (rs := 0) (ci := 4) (q := 38) dX0_leavesBy_35 q1013 q1014 rfl q1015 gcX3_reads (PP.p hk) (c_pRead (kn := kn) hP hk hw hh hZ (by omega) hkn hr hr1 hR) rfl rfl (fun k35 z35 => ?_)
      obtain ⟨hZ5, hk5⟩ := z35
      refine g_iinc (q := 41) dX0_leavesBy_38 rfl gs4 rfl ?_
      refine g_goto (t := 15) dX0_leavesBy_41 (by decide) ?_
      exact ih _ (B + 1) _ _ (by omega) (by omega) hh2 (by omega) (by omega) hZ5 hk5 kk
theorem l_lv2 (hX : (XR E x mf ow h w hs si lo bk uW uH uB iL iS tp td fk fp my wd uN)) (hP : PP E x mf ow h t w td fk fp) (hL : XPL E h x td fk fp bl pl bp) (hw : WFw w) (hh : HSok B hs) (hB0 : 0 ≤ B) (hB : B ≤ 700000000) (hkn : in32 kn) (hr : 0 ≤ r) (hr1 : r < w 2) (hdy : 0 ≤ days ∧ days ≤ 4) (hp : ∀ j : Int, 0 ≤ j → j < days → 0 ≤ pl j ∧ pl j ≤ 8) :
    ∀ (f : Nat) (j : Nat) (k : gH) (x4 : Option Value), (j : Int) + f = days → HZ w (lvE w kn r pl hs j) → hHx E h (x + 120) t (lvE w kn r pl hs j) k →
    GO E iX0_leavesBy (d + 1303) 0 0 7 [some (.ref x), some (vI r), some (vI days), some (vI j), x4] [] k (qP fun o k => o = vI (mLeft w (lvE w kn r pl hs days.toNat) r) ∧ ∃ hs1, hHx E h (x + 120) t hs1 k) := by
  intro f
  induction f with
  | zero =>
    intro j k x4 h0 hZ hk
    have ej : days.toNat = j := by omega
    rw [ej]
    have hL1 := hL.paper hk
    have hh1 := lvE_ok (kn := kn) (pl := pl) hw hr hr1 hB0 hh j (fun q q1 q2 => hp q q1 (by omega))
    refine g_iload_n (q := 8) dX0_leavesBy_7 rfl rfl ?_
    refine g_iload_n (q := 9) dX0_leavesBy_8 rfl rfl ?_
    refine g_icmp_ge (t := 59) (q := 12) dX0_leavesBy_9 (by decide) rfl (by first | assumption | exact in32_gB | exact in32_gCmp | (unfold in32; omega)) (by first | assumption | exact in32_gB | exact in32_gCmp | (unfold in32; omega)) (fun c9 => ?_) (fun c9 => ?_)
    · refine g_aload_n (q := 60) dX0_leavesBy_59 rfl rfl ?_
      refine g_get (C := RX0) (T := TX0) (ci := 0) (k := 3) (q := 63) dX0_leavesBy_60 q521 rfl in_X0 (by decide) hL1.1 rfl rfl ?_
      refine g_aload_n (q := 64) dX0_leavesBy_63 rfl rfl ?_
      refine g_iload_n (q := 65) dX0_leavesBy_64 rfl rfl ?_
      refine g_cvP (I' := iX0_rowAt) (mc := 0) (ms := 0) (rc := 0) (rs := 0) (ci := 0) (q := 68) dX0_leavesBy_65 q992 q994 rfl qs28 gcX0_rowAt hL1.1 (GO.deep (c_pRow (d := 0) hX hP hk hr hr1) (by omega)) rfl rfl (fun v65 k65 z65 => ?_)
      obtain ⟨ra, rfl, hR, rfl⟩ := z65
      refine g_cv (I' := iX3_supports) (mc := 0) (ms := 0) (rc := 0) (rs := 0) (ci := 4) (q := 71) dX0_leavesBy_68 q1322 q1323 rfl q1324 gcX3_supports (PP.p hk) (GO.deep (c_pSupports (d := 0) hP hk hw hh1 hr hr1 hR) (by omega)) rfl rfl ?_
      exact g_iret dX0_leavesBy_71 rfl ⟨_, rfl, rfl, _, hk⟩
    · exact absurd c9 (by omega)
  | succ f ih =>
    intro j k x4 h0 hZ hk
    have hh1 := lvE_ok (kn := kn) (pl := pl) hw hr hr1 hB0 hh j (fun q q1 q2 => hp q q1 (by omega))
    have hpj := hp j (by omega) (by omega)
    have hh2 := HSok.rdN (kl := -1) (kn := kn) hw hr hr1 (pl j).toNat _ _ hh1
    refine g_iload_n (q := 8) dX0_leavesBy_7 rfl rfl ?_
    refine g_iload_n (q := 9) dX0_leavesBy_8 rfl rfl ?_
    refine g_icmp_ge (t := 59) (q := 12) dX0_leavesBy_9 (by decide) rfl (by first | assumption | exact in32_gB | exact in32_gCmp | (unfold in32; omega)) (by first | assumption | exact in32_gB | exact in32_gCmp | (unfold in32; omega)) (fun c9 => ?_) (fun c9 => ?_)
    · exact absurd c9 (by omega)
    · refine g_iconst (q := 13) dX0_leavesBy_12 rfl ?_
      refine g_istore (q := 15) dX0_leavesBy_13 gs4 rfl ?_
      refine l_lv1 (d := d) (kn := kn) hX hP hL hw hkn hr hr1 (day := j) (by omega) hpj (by unfold in32; omega) (pl j).toNat 0 _ _ _ (by omega) (by omega) hh1 (by omega) (by omega) hZ hk (fun k' hZ' hk' => ?_)
      obtain ⟨bl9, hC9⟩ := hP.c hk'
      refine g_aload_n (q := 45) dX0_leavesBy_44 rfl rfl ?_
      refine g_get (C := RX0) (T := TX0) (ci := 0) (k := 3) (q := 48) dX0_leavesBy_45 q521 rfl in_X0 (by decide) hC9 rfl rfl ?_
      refine g_bipush (q := 50) dX0_leavesBy_48 rfl ?_
      refine g_cvVP (I' := iX3_waits) (mc := 0) (ms := 0) (rc := 0) (rs := 0) (ci := 4) (q := 53) dX0_leavesBy_50 q1150 q1151 rfl q1152 gcX3_waits (PP.p hk') (c_pWait (kn := kn) hP hk' hw hh2 hZ' (by omega) (by omega) hkn (by omega)) rfl rfl (fun k50 z50 => ?_)
      obtain ⟨hZ5, hk5⟩ := z50
      refine g_iinc (q := 56) dX0_leavesBy_53 rfl gs3 rfl ?_
      refine g_goto (t := 7) dX0_leavesBy_56 (by decide) ?_
      exact ih (j + 1) _ _ (by omega) hZ5 hk5
theorem c_leavesBy (hX : (XR E x mf ow h w hs si lo bk uW uH uB iL iS tp td fk fp my wd uN)) (ht : S_O E ow h 0 (x + 2) t w lo) (hL : XPL E h x td fk fp bl pl bp) (hw : WFw w) (hh : HSok B hs) (hZ : HZ w hs) (hB0 : 0 ≤ B) (hB : B ≤ 700000000) (hkn : in32 kn) (hr : 0 ≤ r) (hr1 : r < w 2) (hdy : 0 ≤ days ∧ days ≤ 4) (hp : ∀ j : Int, 0 ≤ j → j < days → 0 ≤ pl j ∧ pl j ≤ 8) :
    CALL E iX0_leavesBy (d + 1303) 0 0 [.ref x, vI r, vI days] h (qP fun o k => o = vI (mLeft w (lvE w kn r pl hs days.toNat) r) ∧ ∃ hs1, hHx E h (x + 120) t hs1 k) := by
  have hP := PP.of hX ht
  show GO E iX0_leavesBy _ _ _ 0 [some (.ref x), some (vI r), some (vI days), none, none] [] _ _
  refine g_aload_n (q := 1) dX0_leavesBy_0 rfl rfl ?_
  refine g_cvP (I' := iX0_onPaper) (mc := 0) (ms := 0) (rc := 0) (rs := 0) (ci := 0) (q := 4) dX0_leavesBy_1 q1204 q1206 rfl qs34 gcX0_onPaper hL.1 (GO.deep (c_onPaper (d := 0) hX ht) (by omega)) rfl rfl (fun v1 k1 z1 => ?_)
  obtain ⟨rfl, hk1⟩ := z1
  refine g_pop (q := 5) dX0_leavesBy_4 rfl ?_
  refine g_iconst (q := 6) dX0_leavesBy_5 rfl ?_
  refine g_istore_n (q := 7) dX0_leavesBy_6 gs3 rfl ?_
  exact l_lv2 (d := d) (kn := kn) hX hP hL hw hh hB0 hB hkn hr hr1 hdy hp days.toNat 0 _ _ (by omega) hZ hk1
theorem c_plansX (hw : WFw w) (hh : HSok B hs) (hZ : HZ w hs) (hB0 : 0 ≤ B) (hB : B ≤ 700000000) (hkn : in32 kn) (hr : 0 ≤ r) (hr1 : r < w 2) (hdy : 1 ≤ days ∧ days ≤ 4) :
    ∀ (D day : Nat) (left bl : Int) (pl bp : Int → Int) (st : Int × Int) (h : gH), (day : Int) + D + 1 = days → 0 ≤ left → left ≤ 8 → (∀ j : Int, 0 ≤ j → j < day → 0 ≤ pl j ∧ pl j ≤ 8) → in32 bl → (XR E x mf ow h w hs si lo bk uW uH uB iL iS tp td fk fp my wd uN) → XPL E h x td fk fp bl pl bp → BST days.toNat st bp bl →
    CALL E iX0_plans (d + 1304 + D) 0 0 [.ref x, vI r, vI day, vI left, vI days] h (qVP fun k => ∃ bl' pl' bp', (XR E x mf ow k w hs si lo bk uW uH uB iL iS tp td fk fp my wd uN) ∧ XPL E k x td fk fp bl' pl' bp' ∧ in32 bl' ∧ (∀ j : Int, 0 ≤ j → j < day → pl' j = pl j) ∧ BST days.toNat (plD w (-1) kn r D left (cdE pl day) (lvE w kn r pl hs day) st) bp' bl') := by
  intro D
  induction D with
  | zero =>
    intro day left bl pl bp st h e0 h0 h1 hp hbl hX hL hb
    have hX1 := XR.setp (g := upI pl day left) hX
    have hL1 := XPL.setp (g := upI pl day left) hL
    obtain ⟨-, -, -, ⟨t, s1, -⟩, -⟩ := id hX1
    have hp1 : ∀ j : Int, 0 ≤ j → j < days → 0 ≤ upI pl day left j ∧ upI pl day left j ≤ 8 := fun j q1 q2 => by
      by_cases z : j = day
      · subst z; rw [upI_at]; exact ⟨h0, h1⟩
      · rw [upI_ne z]; exact hp j q1 (by omega)
    have hh1 := lvE_ok (kn := kn) (pl := upI pl day left) hw hr hr1 hB0 hh days.toNat (fun q q1 q2 => hp1 q q1 (by omega))
    have hLf := mLeft_in hw hh1 hr hr1
    have hcd := cdE_pos (pl := pl) day (fun j q1 q2 => (hp j q1 q2).1)
    have ed : days.toNat = day + 1 := by omega
    have ex : ∀ j : Int, 0 ≤ j → j < day → upI pl day left j = pl j := fun j q1 q2 => upI_ne (by omega)
    have e1 : lvE w kn r (upI pl day left) hs days.toNat = plH w (-1) kn r left (lvE w kn r pl hs day) := by
      rw [ed]
      show plH w (-1) kn r (upI pl day left day) (lvE w kn r (upI pl day left) hs day) = _
      rw [upI_at, lvE_ext day ex]
    have e2 : cdE (upI pl day left) days.toNat = 10 * cdE pl day + left := by
      rw [ed]
      show 10 * cdE (upI pl day left) day + upI pl day left day = _
      rw [upI_at, cdE_ext day ex]
    show CALL _ _ _ _ _ _ _ (qVP fun k => ∃ bl' pl' bp', (XR E x mf ow k w hs si lo bk uW uH uB iL iS tp td fk fp my wd uN) ∧ XPL E k x td fk fp bl' pl' bp' ∧ in32 bl' ∧ (∀ j : Int, 0 ≤ j → j < day → pl' j = pl j) ∧ BST days.toNat (plE (cdE pl day) left (mLeft w (plH w (-1) kn r left (lvE w kn r pl hs day)) r) st) bp' bl')
    rw [← e1]
    show GO E iX0_plans _ _ _ 0 [some (.ref x), some (vI r), some (vI day), some (vI left), some (vI days), none] [] _ _
    refine g_iload_n (q := 1) dX0_plans_0 rfl rfl ?_
    refine g_iload (q := 3) dX0_plans_1 rfl rfl ?_
    refine g_iconst (q := 4) dX0_plans_3 rfl ?_
    refine g_isub (q := 5) dX0_plans_4 rfl ?_
    refine g_icmp_ne (t := 55) (q := 8) dX0_plans_5 (by decide) rfl (by first | assumption | exact in32_gB | exact in32_gCmp | (unfold in32; omega)) (by first | assumption | exact in32_gB | exact in32_gCmp | (unfold in32; omega)) (fun c5 => ?_) (fun c5 => ?_)
    · exact absurd (show (day : Int) = days - 1 by omega) c5
    · refine g_aload_n (q := 9) dX0_plans_8 rfl rfl ?_
      refine g_get (C := RX0) (T := TX0) (ci := 0) (k := 8) (q := 12) dX0_plans_9 q526 rfl in_X0 (by decide) hL.1 rfl rfl ?_
      refine g_iload_n (q := 13) dX0_plans_12 rfl rfl ?_
      refine g_iload_n (q := 14) dX0_plans_13 rfl rfl ?_
      refine g_iast (q := 15) dX0_plans_14 hL.2.1 (by omega) (by omega)  rfl ?_
      refine g_aload_n (q := 16) dX0_plans_15 rfl rfl ?_
      refine g_iload_n (q := 17) dX0_plans_16 rfl rfl ?_
      refine g_iload (q := 19) dX0_plans_17 rfl rfl ?_
      refine g_cvP (I' := iX0_leavesBy) (mc := 0) (ms := 0) (rc := 0) (rs := 0) (ci := 0) (q := 22) dX0_plans_19 q1318 q1320 rfl qs40 gcX0_leavesBy hL1.1 (c_leavesBy (d := d) (kn := kn) hX1 s1 hL1 hw hh hZ hB0 hB hkn hr hr1 (by omega) hp1) rfl rfl (fun v19 k19 z19 => ?_)
      obtain ⟨rfl, hs2, hk2⟩ := z19
      have hX2 := hX1.paperx hk2
      have hL2 := hL1.paper hk2
      generalize eM : mLeft w (lvE w kn r (upI pl day left) hs days.toNat) r = M at *
      refine g_istore (q := 24) dX0_plans_22 gs5 rfl ?_
      refine g_iload (q := 26) dX0_plans_24 rfl rfl ?_
      refine g_aload_n (q := 27) dX0_plans_26 rfl rfl ?_
      refine g_get (C := RX0) (T := TX0) (ci := 0) (k := 10) (q := 30) dX0_plans_27 q528 rfl in_X0 (by decide) hL2.1 rfl rfl ?_
      refine g_icmp_gt (t := 34) (q := 33) dX0_plans_30 (by decide) rfl (by first | assumption | exact in32_gB | exact in32_gCmp | (unfold in32; omega)) (by first | assumption | exact in32_gB | exact in32_gCmp | (unfold in32; omega)) (fun c30 => ?_) (fun c30 => ?_)
      · refine g_aload_n (q := 35) dX0_plans_34 rfl rfl ?_
        refine g_iload (q := 37) dX0_plans_35 rfl rfl ?_
        refine g_put (C := RX0) (T := TX0) (ci := 0) (k := 10) (q := 40) dX0_plans_37 q528 rfl in_X0 tyX0_ok nmX0 (by decide) rfl gFit_int hL2.1 (Nat.le_of_ble_eq_true rfl) rfl ?_
        have hX3 := hX2.obj (td' := td) (fk' := fk) (fp' := fp) (bl' := M) (by unfold in32; omega)
        have hL3 := XPL.setl (g := M) hL2
        refine g_aload_n (q := 41) dX0_plans_40 rfl rfl ?_
        refine g_get (C := RX0) (T := TX0) (ci := 0) (k := 8) (q := 44) dX0_plans_41 q526 rfl in_X0 (by decide) hL3.1 rfl rfl ?_
        refine g_iconst (q := 45) dX0_plans_44 rfl ?_
        refine g_aload_n (q := 46) dX0_plans_45 rfl rfl ?_
        refine g_get (C := RX0) (T := TX0) (ci := 0) (k := 9) (q := 49) dX0_plans_46 q527 rfl in_X0 (by decide) hL3.1 rfl rfl ?_
        refine g_iconst (q := 50) dX0_plans_49 rfl ?_
        refine g_iconst (q := 51) dX0_plans_50 rfl ?_
        refine g_copyI (q := 54) (n := 4) (dp := 0) (sp := 0) (n0 := 4) (n1 := 4) dX0_plans_51 q855 hL3.2.1 hL3.2.2 (by decide) (by decide) (by decide) (by decide) (by decide) (by decide) (by decide) rfl ?_
        exact g_vret dX0_plans_54 rfl ⟨rfl, M, _, _, XR.setb hX3, XPL.setb hL3, by unfold in32; omega, ex, by unfold plE; rw [if_pos (by unfold BST at hb; omega)]; exact Or.inr ⟨by show 10 * cdE pl day + left = _; rw [← e2]; exact (cdE_ext _ (fun j q1 q2 => (cpyI_in (by omega) (by omega)).trans (by congr 1; omega))).symm, rfl, by omega, by show 10 * cdE pl day + left ≠ -1; omega⟩⟩
      · exact g_vret dX0_plans_33 rfl ⟨rfl, bl, _, bp, hX2, hL2, hbl, ex, by unfold plE; rw [if_neg (by unfold BST at hb; omega)]; exact hb⟩
  | succ D ih =>
    intro day left bl pl bp st h e0 h0 h1 hp hbl hX hL hb
    have loop : ∀ (f : Nat) (n bl : Int) (pl1 bp : Int → Int) (st : Int × Int) (h : gH), n + 1 = f → n ≤ left → (∀ j : Int, 0 ≤ j → j < day → pl1 j = pl j) → in32 bl → (XR E x mf ow h w hs si lo bk uW uH uB iL iS tp td fk fp my wd uN) → XPL E h x td fk fp bl pl1 bp → BST days.toNat st bp bl →
        GO E iX0_plans (d + 1304 + (D + 1)) 0 0 58 [some (.ref x), some (vI r), some (vI day), some (vI left), some (vI days), some (vI n)] [] h (qVP fun k => ∃ bl' pl' bp', (XR E x mf ow k w hs si lo bk uW uH uB iL iS tp td fk fp my wd uN) ∧ XPL E k x td fk fp bl' pl' bp' ∧ in32 bl' ∧ (∀ j : Int, 0 ≤ j → j < day → pl' j = pl j) ∧ BST days.toNat (plN (fun n st => plD w (-1) kn r D (left - n) (10 * cdE pl day + n) (plH w (-1) kn r n (lvE w kn r pl hs day)) st) f n st) bp' bl') := by
      intro f
      induction f with
      | zero =>
        intro n bl pl1 bp st h q1 q2 hp1 hbl hX hL hb
        obtain rfl : n = -1 := by omega
        refine g_iload (q := 60) dX0_plans_58 rfl rfl ?_
        refine g_if_lt (t := 91) (q := 63) dX0_plans_60 (by decide) rfl (by unfold in32; omega) (fun c60 => ?_) (fun c60 => ?_)
        · exact g_vret dX0_plans_91 rfl ⟨rfl, bl, pl1, bp, hX, hL, hbl, hp1, hb⟩
        · exact absurd c60 (by decide)
      | succ f ihf =>
        intro n bl pl1 bp st h q1 q2 hp1 hbl hX hL hb
        have hX1 := XR.setp (g := upI pl1 day n) hX
        have hL1 := XPL.setp (g := upI pl1 day n) hL
        have ex : ∀ j : Int, 0 ≤ j → j < day → upI pl1 day n j = pl j := fun j q1 q2 => (upI_ne (by omega)).trans (hp1 j q1 q2)
        have e1 : lvE w kn r (upI pl1 day n) hs (day + 1) = plH w (-1) kn r n (lvE w kn r pl hs day) := by
          show plH w (-1) kn r (upI pl1 day n day) (lvE w kn r (upI pl1 day n) hs day) = _
          rw [upI_at, lvE_ext day ex]
        have e2 : cdE (upI pl1 day n) (day + 1) = 10 * cdE pl day + n := by
          show 10 * cdE (upI pl1 day n) day + upI pl1 day n day = _
          rw [upI_at, cdE_ext day ex]
        have hp2 : ∀ j : Int, 0 ≤ j → j < ((day + 1 : Nat) : Int) → 0 ≤ upI pl1 day n j ∧ upI pl1 day n j ≤ 8 := fun j q3 q4 => by
          by_cases z : j = day
          · subst z; rw [upI_at]; omega
          · rw [upI_ne z, hp1 j q3 (by omega)]; exact hp j q3 (by omega)
        have z := ih (day + 1) (left - n) bl (upI pl1 day n) bp st _ (by omega) (by omega) (by omega) hp2 hbl hX1 hL1 hb
        rw [e1, e2] at z
        refine g_iload (q := 60) dX0_plans_58 rfl rfl ?_
        refine g_if_lt (t := 91) (q := 63) dX0_plans_60 (by decide) rfl (by unfold in32; omega) (fun c60 => ?_) (fun c60 => ?_)
        · exact absurd c60 (by omega)
        · refine g_aload_n (q := 64) dX0_plans_63 rfl rfl ?_
          refine g_get (C := RX0) (T := TX0) (ci := 0) (k := 8) (q := 67) dX0_plans_64 q526 rfl in_X0 (by decide) hL.1 rfl rfl ?_
          refine g_iload_n (q := 68) dX0_plans_67 rfl rfl ?_
          refine g_iload (q := 70) dX0_plans_68 rfl rfl ?_
          refine g_iast (q := 71) dX0_plans_70 hL.2.1 (by omega) (by omega)  rfl ?_
          refine g_aload_n (q := 72) dX0_plans_71 rfl rfl ?_
          refine g_iload_n (q := 73) dX0_plans_72 rfl rfl ?_
          refine g_iload_n (q := 74) dX0_plans_73 rfl rfl ?_
          refine g_iconst (q := 75) dX0_plans_74 rfl ?_
          refine g_iadd (q := 76) dX0_plans_75 rfl ?_
          refine g_iload_n (q := 77) dX0_plans_76 rfl rfl ?_
          refine g_iload (q := 79) dX0_plans_77 rfl rfl ?_
          refine g_isub (q := 80) dX0_plans_79 rfl ?_
          refine g_iload (q := 82) dX0_plans_80 rfl rfl ?_
          refine g_cvVP (I' := iX0_plans) (mc := 0) (ms := 0) (rc := 0) (rs := 0) (ci := 0) (q := 85) dX0_plans_82 q1314 q1316 rfl qs39 gcX0_plans hL1.1 (z) rfl rfl (fun k82 z82 => ?_)
          obtain ⟨bl2, pl2, bp2, hX2, hL2, hbl2, hp22, hb2⟩ := z82
          refine g_iinc (q := 88) dX0_plans_85 rfl gs5 rfl ?_
          refine g_goto (t := 58) dX0_plans_88 (by decide) ?_
          exact ihf (n - 1) bl2 pl2 bp2 _ _ (by omega) (by omega) (fun j q3 q4 => (hp22 j q3 (by omega)).trans (ex j q3 q4)) hbl2 hX2 hL2 hb2
    show GO E iX0_plans _ _ _ 0 [some (.ref x), some (vI r), some (vI day), some (vI left), some (vI days), none] [] _ _
    refine g_iload_n (q := 1) dX0_plans_0 rfl rfl ?_
    refine g_iload (q := 3) dX0_plans_1 rfl rfl ?_
    refine g_iconst (q := 4) dX0_plans_3 rfl ?_
    refine g_isub (q := 5) dX0_plans_4 rfl ?_
    refine g_icmp_ne (t := 55) (q := 8) dX0_plans_5 (by decide) rfl (by first | assumption | exact in32_gB | exact in32_gCmp | (unfold in32; omega)) (by first | assumption | exact in32_gB | exact in32_gCmp | (unfold in32; omega)) (fun c5 => ?_) (fun c5 => ?_)
    · refine g_iload_n (q := 56) dX0_plans_55 rfl rfl ?_
      refine g_istore (q := 58) dX0_plans_56 gs5 rfl ?_
      exact loop (left + 1).toNat left bl pl bp st h (by omega) (by omega) (fun j _ _ => rfl) hbl hX hL hb
    · exact absurd c5 (by omega)
theorem c_isSpreadX (hX : (XR E x mf ow h w hs si lo bk uW uH uB iL iS tp td fk fp my wd uN)) (h1 : in32 r) (h2 : in32 n) (h3 : in32 days) (hw : 0 ≤ w 2 ∧ w 2 ≤ 12) : CALL E iX0_isSpread (d + 2) 0 0 [.ref x, vI r, vI n, vI days] h (qR (vI (gB (isPl w r n days))) h) := by
  obtain ⟨x1, x2, ⟨w3, bl, tq, pl, bp, hC, -⟩, -⟩ := id hX
  have h4 := h2.1
  have h5 := h2.2
  have h6 := h3.1
  have h7 := h3.2
  show GO E iX0_isSpread _ _ _ 0 [some (.ref x), some (vI r), some (vI n), some (vI days)] [] _ _
  refine g_aload_n (q := 1) dX0_isSpread_0 rfl rfl ?_
  refine g_iload_n (q := 2) dX0_isSpread_1 rfl rfl ?_
  refine g_cv (I' := iX0_isRow) (mc := 0) (ms := 0) (rc := 0) (rs := 0) (ci := 0) (q := 5) dX0_isSpread_2 q983 q985 rfl qs26 gcX0_isRow hC (c_isRowX hX h1 hw) rfl rfl ?_
  refine g_ifeqB (t := 36) (q := 8) dX0_isSpread_5 (by decide) rfl (fun c5 => ?_) (fun c5 => ?_)
  · refine g_iconst (q := 37) dX0_isSpread_36 rfl ?_
    exact g_zret0 dX0_isSpread_37 rfl ⟨rI (by first | exact (gB_t ⟨c5, c17, c29⟩).symm | exact (gB_f (fun z => c5 z.1)).symm | exact (gB_f (fun z => c17 z.2.1)).symm | exact (gB_f (fun z => c29 z.2.2)).symm), rfl⟩
  · refine g_iload_n (q := 9) dX0_isSpread_8 rfl rfl ?_
    refine g_i2l (q := 10) dX0_isSpread_9 (by first | assumption | exact in32_gB | exact in32_gCmp | (unfold in32; omega)) rfl ?_
    refine g_lconst1 (q := 11) dX0_isSpread_10 rfl ?_
    refine g_ldc2 (a := 8) (q := 14) dX0_isSpread_11 q1308 (by decide) rfl ?_
    refine g_cs (I' := iX0_in) (mc := 0) (ms := 0) (rc := 0) (rs := 0) (q := 17) dX0_isSpread_14 q130 q131 gcX0_in (c_inX (by unfold in64; omega) (by unfold in64; omega) (by unfold in64; omega)) rfl rfl ?_
    refine g_ifeqB (t := 36) (q := 20) dX0_isSpread_17 (by decide) rfl (fun c17 => ?_) (fun c17 => ?_)
    · refine g_iconst (q := 37) dX0_isSpread_36 rfl ?_
      exact g_zret0 dX0_isSpread_37 rfl ⟨rI (by first | exact (gB_t ⟨c5, c17, c29⟩).symm | exact (gB_f (fun z => c5 z.1)).symm | exact (gB_f (fun z => c17 z.2.1)).symm | exact (gB_f (fun z => c29 z.2.2)).symm), rfl⟩
    · refine g_iload_n (q := 21) dX0_isSpread_20 rfl rfl ?_
      refine g_i2l (q := 22) dX0_isSpread_21 (by first | assumption | exact in32_gB | exact in32_gCmp | (unfold in32; omega)) rfl ?_
      refine g_lconst1 (q := 23) dX0_isSpread_22 rfl ?_
      refine g_ldc2 (a := 4) (q := 26) dX0_isSpread_23 q1309 (by decide) rfl ?_
      refine g_cs (I' := iX0_in) (mc := 0) (ms := 0) (rc := 0) (rs := 0) (q := 29) dX0_isSpread_26 q130 q131 gcX0_in (c_inX (by unfold in64; omega) (by unfold in64; omega) (by unfold in64; omega)) rfl rfl ?_
      refine g_ifeqB (t := 36) (q := 32) dX0_isSpread_29 (by decide) rfl (fun c29 => ?_) (fun c29 => ?_)
      · refine g_iconst (q := 37) dX0_isSpread_36 rfl ?_
        exact g_zret0 dX0_isSpread_37 rfl ⟨rI (by first | exact (gB_t ⟨c5, c17, c29⟩).symm | exact (gB_f (fun z => c5 z.1)).symm | exact (gB_f (fun z => c17 z.2.1)).symm | exact (gB_f (fun z => c29 z.2.2)).symm), rfl⟩
      · refine g_iconst (q := 33) dX0_isSpread_32 rfl ?_
        refine g_goto (t := 37) dX0_isSpread_33 (by decide) ?_
        exact g_zret1 dX0_isSpread_37 rfl ⟨rI (by first | exact (gB_t ⟨c5, c17, c29⟩).symm | exact (gB_f (fun z => c5 z.1)).symm | exact (gB_f (fun z => c17 z.2.1)).symm | exact (gB_f (fun z => c29 z.2.2)).symm), rfl⟩
theorem c_spreadsX (hX : (XR E x mf ow h w hs si lo bk uW uH uB iL iS tp td fk fp my wd uN)) (hw : WFw w) (hh : HSok B hs) (hZ : HZ w hs) (hB0 : 0 ≤ B) (hB : B ≤ 600000000) (hkn : in32 kn) (hz : isPl w r n days) :
    CALL E iX0_spreads (d + 1309) 0 0 [.ref x, vI r, vI n, vI days] h (qVP fun k => ∃ bl' pl' bp', (XR E x mf ow k w hs si lo bk uW uH uB iL iS tp td fk fp my wd uN) ∧ XPL E k x td fk fp bl' pl' bp' ∧ (mSpread w hs (-1) kn r n days).1 = cdE bp' days.toNat ∧ (mSpread w hs (-1) kn r n days).2 = bl') := by
  obtain ⟨bl, pl, bp, hbl, hL⟩ := XPL.of hX
  have hX1 := hX.obj (td' := td) (fk' := fk) (fp' := fp) (bl' := -1) (by unfold in32; omega)
  have hL1 := XPL.setl (g := -1) hL
  have z := c_plansX (d := d + 4 - (days - 1).toNat) (kn := kn) (days := days) hw hh hZ hB0 (by omega) hkn hz.1.1 (show r < w 2 by omega) (by omega) (days - 1).toNat 0 n (-1) pl bp (-1, 0) _ (by omega) (by omega) (by omega) (fun j q1 q2 => absurd q2 (by omega)) (by unfold in32; omega) hX1 hL1 (Or.inl ⟨rfl, rfl⟩)
  have e : d + 4 - (days - 1).toNat + 1304 + (days - 1).toNat = d + 1308 := by omega
  rw [e] at z
  have hp := (plD_pos (w := w) (kl := -1) (kn := kn) (r := r) (days - 1).toNat n 0 hs (-1, 0) (by omega) (by omega)).1
  show GO E iX0_spreads _ _ _ 0 [some (.ref x), some (vI r), some (vI n), some (vI days)] [] _ _
  refine g_aload_n (q := 1) dX0_spreads_0 rfl rfl ?_
  refine g_iconst (q := 2) dX0_spreads_1 rfl ?_
  refine g_put (C := RX0) (T := TX0) (ci := 0) (k := 10) (q := 5) dX0_spreads_2 q528 rfl in_X0 tyX0_ok nmX0 (by decide) rfl gFit_int hL.1 (Nat.le_of_ble_eq_true rfl) rfl ?_
  refine g_aload_n (q := 6) dX0_spreads_5 rfl rfl ?_
  refine g_iload_n (q := 7) dX0_spreads_6 rfl rfl ?_
  refine g_iconst (q := 8) dX0_spreads_7 rfl ?_
  refine g_iload_n (q := 9) dX0_spreads_8 rfl rfl ?_
  refine g_iload_n (q := 10) dX0_spreads_9 rfl rfl ?_
  refine g_cvVP (I' := iX0_plans) (mc := 0) (ms := 0) (rc := 0) (rs := 0) (ci := 0) (q := 13) dX0_spreads_10 q1314 q1316 rfl qs39 gcX0_plans hL1.1 (z) rfl rfl (fun k10 z10 => ?_)
  obtain ⟨bl2, pl2, bp2, hX2, hL2, hbl2, hp22, hb2⟩ := z10
  rcases hb2 with q | q
  · exact absurd q.1 hp
  exact g_vret dX0_spreads_13 rfl ⟨rfl, bl2, pl2, bp2, hX2, hL2, q.1, q.2.1⟩
theorem l_spreadX (hX : (XR E x mf ow h w hs si lo bk uW uH uB iL iS tp td fk fp my wd uN)) (hL : XPL E h x td fk fp bl pl bp) (hdy : 1 ≤ days ∧ days ≤ 4) : ∀ (f j : Nat), (j : Int) + f = days → GO E iX0_spread (d + 1310) 0 0 25 [some (.ref x), some (vI r), some (vI n), some (vI days), some (vI (cdE bp j)), some (vI j)] [] h (qP fun v k => v = vI (cdE bp days.toNat) ∧ (XR E x mf ow k w hs si lo bk uW uH uB iL iS tp td fk fp my wd uN)) := by
  intro f
  induction f with
  | zero =>
    intro j e
    have ej : days.toNat = j := by omega
    rw [ej]
    refine g_iload (q := 27) dX0_spread_25 rfl rfl ?_
    refine g_iload_n (q := 28) dX0_spread_27 rfl rfl ?_
    refine g_icmp_ge (t := 52) (q := 31) dX0_spread_28 (by decide) rfl (by first | assumption | exact in32_gB | exact in32_gCmp | (unfold in32; omega)) (by first | assumption | exact in32_gB | exact in32_gCmp | (unfold in32; omega)) (fun c28 => ?_) (fun c28 => ?_)
    · refine g_iload (q := 54) dX0_spread_52 rfl rfl ?_
      exact g_iret dX0_spread_54 rfl ⟨_, rfl, rfl, hX⟩
    · exact absurd c28 (by omega)
  | succ f ih =>
    intro j e
    refine g_iload (q := 27) dX0_spread_25 rfl rfl ?_
    refine g_iload_n (q := 28) dX0_spread_27 rfl rfl ?_
    refine g_icmp_ge (t := 52) (q := 31) dX0_spread_28 (by decide) rfl (by first | assumption | exact in32_gB | exact in32_gCmp | (unfold in32; omega)) (by first | assumption | exact in32_gB | exact in32_gCmp | (unfold in32; omega)) (fun c28 => ?_) (fun c28 => ?_)
    · exact absurd c28 (by omega)
    · refine g_bipush (q := 33) dX0_spread_31 rfl ?_
      refine g_iload (q := 35) dX0_spread_33 rfl rfl ?_
      refine g_imul (q := 36) dX0_spread_35 rfl ?_
      refine g_aload_n (q := 37) dX0_spread_36 rfl rfl ?_
      refine g_get (C := RX0) (T := TX0) (ci := 0) (k := 9) (q := 40) dX0_spread_37 q527 rfl in_X0 (by decide) hL.1 rfl rfl ?_
      refine g_iload (q := 42) dX0_spread_40 rfl rfl ?_
      refine g_iald (q := 43) dX0_spread_42 hL.2.2 (by omega) (by omega) rfl ?_
      refine g_iadd (q := 44) dX0_spread_43 rfl ?_
      refine g_istore (q := 46) dX0_spread_44 gs4 rfl ?_
      refine g_iinc (q := 49) dX0_spread_46 rfl gs5 rfl ?_
      refine g_goto (t := 25) dX0_spread_49 (by decide) ?_
      exact ih (j + 1) (by omega)
theorem c_spreadX (hX : (XR E x mf ow h w hs si lo bk uW uH uB iL iS tp td fk fp my wd uN)) (hw : WFw w) (hh : HSok B hs) (hZ : HZ w hs) (hB0 : 0 ≤ B) (hB : B ≤ 600000000) (hkn : in32 kn) (h1 : in32 r) (h2 : in32 n) (h3 : in32 days) :
    CALL E iX0_spread (d + 1310) 0 0 [.ref x, vI r, vI n, vI days] h (qP fun v k => v = vI (if isPl w r n days then (mSpread w hs (-1) kn r n days).1 else -1) ∧ (XR E x mf ow k w hs si lo bk uW uH uB iL iS tp td fk fp my wd uN)) := by
  obtain ⟨x1, x2, ⟨w3, bl, tq, pl, bp, hC, -⟩, -⟩ := id hX
  by_cases z : isPl w r n days
  · rw [if_pos z]
    show GO E iX0_spread _ _ _ 0 [some (.ref x), some (vI r), some (vI n), some (vI days), none, none] [] _ _
    refine g_aload_n (q := 1) dX0_spread_0 rfl rfl ?_
    refine g_iload_n (q := 2) dX0_spread_1 rfl rfl ?_
    refine g_iload_n (q := 3) dX0_spread_2 rfl rfl ?_
    refine g_iload_n (q := 4) dX0_spread_3 rfl rfl ?_
    refine g_cv (I' := iX0_isSpread) (mc := 0) (ms := 0) (rc := 0) (rs := 0) (ci := 0) (q := 7) dX0_spread_4 q1304 q1306 rfl qs37 gcX0_isSpread hC (GO.deep (c_isSpreadX (d := 0) hX h1 h2 h3 ⟨hw.2.1.1, hw.2.1.2⟩) (by omega)) rfl rfl ?_
    refine g_ifneB (t := 12) (q := 10) dX0_spread_7 (by decide) rfl (fun c7 => ?_) (fun c7 => ?_)
    · refine g_aload_n (q := 13) dX0_spread_12 rfl rfl ?_
      refine g_iload_n (q := 14) dX0_spread_13 rfl rfl ?_
      refine g_iload_n (q := 15) dX0_spread_14 rfl rfl ?_
      refine g_iload_n (q := 16) dX0_spread_15 rfl rfl ?_
      refine g_cvVP (I' := iX0_spreads) (mc := 0) (ms := 0) (rc := 0) (rs := 0) (ci := 0) (q := 19) dX0_spread_16 q1310 q1312 rfl qs38 gcX0_spreads hC (c_spreadsX (kn := kn) hX hw hh hZ hB0 hB hkn z) rfl rfl (fun k16 z16 => ?_)
      obtain ⟨bl2, pl2, bp2, hX2, hL2, e1, e2⟩ := z16
      rw [e1]
      refine g_iconst (q := 20) dX0_spread_19 rfl ?_
      refine g_istore (q := 22) dX0_spread_20 gs4 rfl ?_
      refine g_iconst (q := 23) dX0_spread_22 rfl ?_
      refine g_istore (q := 25) dX0_spread_23 gs5 rfl ?_
      exact l_spreadX (d := d) hX2 hL2 z.2.2 days.toNat 0 (by omega)
    · exact absurd z c7
  · rw [if_neg z]
    show GO E iX0_spread _ _ _ 0 [some (.ref x), some (vI r), some (vI n), some (vI days), none, none] [] _ _
    refine g_aload_n (q := 1) dX0_spread_0 rfl rfl ?_
    refine g_iload_n (q := 2) dX0_spread_1 rfl rfl ?_
    refine g_iload_n (q := 3) dX0_spread_2 rfl rfl ?_
    refine g_iload_n (q := 4) dX0_spread_3 rfl rfl ?_
    refine g_cv (I' := iX0_isSpread) (mc := 0) (ms := 0) (rc := 0) (rs := 0) (ci := 0) (q := 7) dX0_spread_4 q1304 q1306 rfl qs37 gcX0_isSpread hC (GO.deep (c_isSpreadX (d := 0) hX h1 h2 h3 ⟨hw.2.1.1, hw.2.1.2⟩) (by omega)) rfl rfl ?_
    refine g_ifneB (t := 12) (q := 10) dX0_spread_7 (by decide) rfl (fun c7 => ?_) (fun c7 => ?_)
    · exact absurd c7 z
    · refine g_iconst (q := 11) dX0_spread_10 rfl ?_
      exact g_iret dX0_spread_11 rfl ⟨_, rfl, rfl, hX⟩
/-- the plan that is asked for -/
def lfP (n days v : Int) : Int → Int := fun i => if lfO n days v i then n else 0
theorem lfD_lv {w hs : Int → Int} {kn r n days v : Int} {pl : Int → Int} (hp : ∀ j : Int, 0 ≤ j → j < days → pl j = lfP n days v j) : ∀ (f j : Nat), (j : Int) + f ≤ days → lfD w (-1) kn r n days v f j (lvE w kn r pl hs j) = lvE w kn r pl hs (j + f) := by
  intro f
  induction f with
  | zero => intro j _; rfl
  | succ f ih =>
    intro j h
    have z := ih (j + 1) (by omega)
    have e : lvE w kn r pl hs (j + 1) = mHours w (-1) kn 24 (if lfO n days v j then mRdN w (-1) kn r n.toNat (lvE w kn r pl hs j) else lvE w kn r pl hs j) := by
      show mHours w (-1) kn 24 (mRdN w (-1) kn r (pl j).toNat (lvE w kn r pl hs j)) = _
      rw [hp j (by omega) (by omega)]
      unfold lfP
      by_cases c : lfO n days v j
      · rw [if_pos c, if_pos c]
      · rw [if_neg c, if_neg c]; rfl
    rw [e] at z
    rw [show j + (f + 1) = j + 1 + f by omega, ← z]
    rfl
theorem l_leftX (hz : isPl w r n days) (hv : 1 ≤ v ∧ v ≤ 2) (hw : WFw w) (hh : HSok B hs) (hZ : HZ w hs) (hB0 : 0 ≤ B) (hB : B ≤ 600000000) (hkn : in32 kn) :
    ∀ (f : Nat) (j bl : Int) (pl bp : Int → Int) (h : gH), 0 ≤ j → j + f = days → (XR E x mf ow h w hs si lo bk uW uH uB iL iS tp td fk fp my wd uN) → XPL E h x td fk fp bl pl bp → (∀ q : Int, 0 ≤ q → q < j → pl q = lfP n days v q) →
    GO E iX0_left (d + 1304) 0 0 45 [some (.ref x), some (vI r), some (vI n), some (vI days), some (vI v), some (vI j)] [] h (qP fun o k => o = vI (mLeft w (lfD w (-1) kn r n days v days.toNat 0 hs) r) ∧ (XR E x mf ow k w hs si lo bk uW uH uB iL iS tp td fk fp my wd uN)) := by
  intro f
  induction f with
  | zero =>
    intro j bl pl bp h q0 q1 hX hL hp
    obtain rfl : j = days := by omega
    obtain ⟨-, -, -, ⟨t, s1, -⟩, -⟩ := id hX
    have e := lfD_lv (w := w) (hs := hs) (kn := kn) (r := r) (v := v) hp j.toNat 0 (by omega)
    have hp1 : ∀ q : Int, 0 ≤ q → q < j → 0 ≤ pl q ∧ pl q ≤ 8 := fun q z1 z2 => by
      rw [hp q z1 z2]
      unfold lfP
      split <;> omega
    have z := c_leavesBy (d := d) (kn := kn) hX s1 hL hw hh hZ hB0 (by omega) hkn hz.1.1 (show r < w 2 by omega) (by omega) hp1
    rw [show lvE w kn r pl hs j.toNat = lfD w (-1) kn r n j v j.toNat 0 hs by rw [Nat.zero_add] at e; exact e.symm] at z
    refine g_iload (q := 47) dX0_left_45 rfl rfl ?_
    refine g_iload_n (q := 48) dX0_left_47 rfl rfl ?_
    refine g_icmp_ge (t := 87) (q := 51) dX0_left_48 (by decide) rfl (by first | assumption | exact in32_gB | exact in32_gCmp | (unfold in32; omega)) (by first | assumption | exact in32_gB | exact in32_gCmp | (unfold in32; omega)) (fun c48 => ?_) (fun c48 => ?_)
    · refine g_aload_n (q := 88) dX0_left_87 rfl rfl ?_
      refine g_iload_n (q := 89) dX0_left_88 rfl rfl ?_
      refine g_iload_n (q := 90) dX0_left_89 rfl rfl ?_
      refine g_cvP (I' := iX0_leavesBy) (mc := 0) (ms := 0) (rc := 0) (rs := 0) (ci := 0) (q := 93) dX0_left_90 q1318 q1320 rfl qs40 gcX0_leavesBy hL.1 (z) rfl rfl (fun v90 k90 z90 => ?_)
      obtain ⟨rfl, hs2, hk2⟩ := z90
      exact g_iret dX0_left_93 rfl ⟨_, rfl, rfl, hX.paperx hk2⟩
    · exact absurd c48 (by omega)
  | succ f ih =>
    intro j bl pl bp h q0 q1 hX hL hp
    have ih' : ∀ y, y = lfP n days v j → GO E iX0_left (d + 1304) 0 0 45 [some (.ref x), some (vI r), some (vI n), some (vI days), some (vI v), some (vI (j + 1))] [] (hset h (x + 224) (aI E 4 (upI pl j y))) (qP fun o k => o = vI (mLeft w (lfD w (-1) kn r n days v days.toNat 0 hs) r) ∧ (XR E x mf ow k w hs si lo bk uW uH uB iL iS tp td fk fp my wd uN)) := fun y ey =>
      ih (j + 1) bl (upI pl j y) bp _ (by omega) (by omega) (XR.setp hX) (XPL.setp hL) (fun q z1 z2 => by
        by_cases c : q = j
        · subst c; rw [upI_at]; exact ey
        · rw [upI_ne c]; exact hp q z1 (by omega))
    refine g_iload (q := 47) dX0_left_45 rfl rfl ?_
    refine g_iload_n (q := 48) dX0_left_47 rfl rfl ?_
    refine g_icmp_ge (t := 87) (q := 51) dX0_left_48 (by decide) rfl (by first | assumption | exact in32_gB | exact in32_gCmp | (unfold in32; omega)) (by first | assumption | exact in32_gB | exact in32_gCmp | (unfold in32; omega)) (fun c48 => ?_) (fun c48 => ?_)
    · exact absurd c48 (by omega)
    · refine g_aload_n (q := 52) dX0_left_51 rfl rfl ?_
      refine g_get (C := RX0) (T := TX0) (ci := 0) (k := 8) (q := 55) dX0_left_52 q526 rfl in_X0 (by decide) hL.1 rfl rfl ?_
      refine g_iload (q := 57) dX0_left_55 rfl rfl ?_
      refine g_iload (q := 59) dX0_left_57 rfl rfl ?_
      refine g_iload (q := 61) dX0_left_59 rfl rfl ?_
      refine g_iconst (q := 62) dX0_left_61 rfl ?_
      refine g_icmp_ne (t := 69) (q := 65) dX0_left_62 (by decide) rfl (by first | assumption | exact in32_gB | exact in32_gCmp | (unfold in32; omega)) (by first | assumption | exact in32_gB | exact in32_gCmp | (unfold in32; omega)) (fun c62 => ?_) (fun c62 => ?_)
      · refine g_iload_n (q := 70) dX0_left_69 rfl rfl ?_
        refine g_iconst (q := 71) dX0_left_70 rfl ?_
        refine g_isub (q := 72) dX0_left_71 rfl ?_
        refine g_icmp_ne (t := 79) (q := 75) dX0_left_72 (by decide) rfl (by first | assumption | exact in32_gB | exact in32_gCmp | (unfold in32; omega)) (by first | assumption | exact in32_gB | exact in32_gCmp | (unfold in32; omega)) (fun c72 => ?_) (fun c72 => ?_)
        · refine g_iconst (q := 80) dX0_left_79 rfl ?_
          refine g_iast (q := 81) dX0_left_80 hL.2.1 (by omega) (by omega)  rfl ?_
          refine g_iinc (q := 84) dX0_left_81 rfl gs5 rfl ?_
          refine g_goto (t := 45) dX0_left_84 (by decide) ?_
          first
          | exact ih' n (by unfold lfP; rw [if_pos (by omega)])
          | exact ih' 0 (by unfold lfP; rw [if_neg (by omega)])
        · refine g_iload_n (q := 76) dX0_left_75 rfl rfl ?_
          refine g_goto (t := 80) dX0_left_76 (by decide) ?_
          refine g_iast (q := 81) dX0_left_80 hL.2.1 (by omega) (by omega)  rfl ?_
          refine g_iinc (q := 84) dX0_left_81 rfl gs5 rfl ?_
          refine g_goto (t := 45) dX0_left_84 (by decide) ?_
          first
          | exact ih' n (by unfold lfP; rw [if_pos (by omega)])
          | exact ih' 0 (by unfold lfP; rw [if_neg (by omega)])
      · refine g_iconst (q := 66) dX0_left_65 rfl ?_
        refine g_goto (t := 72) dX0_left_66 (by decide) ?_
        refine g_icmp_ne (t := 79) (q := 75) dX0_left_72 (by decide) rfl (by first | assumption | exact in32_gB | exact in32_gCmp | (unfold in32; omega)) (by first | assumption | exact in32_gB | exact in32_gCmp | (unfold in32; omega)) (fun c72 => ?_) (fun c72 => ?_)
        · refine g_iconst (q := 80) dX0_left_79 rfl ?_
          refine g_iast (q := 81) dX0_left_80 hL.2.1 (by omega) (by omega)  rfl ?_
          refine g_iinc (q := 84) dX0_left_81 rfl gs5 rfl ?_
          refine g_goto (t := 45) dX0_left_84 (by decide) ?_
          first
          | exact ih' n (by unfold lfP; rw [if_pos (by omega)])
          | exact ih' 0 (by unfold lfP; rw [if_neg (by omega)])
        · refine g_iload_n (q := 76) dX0_left_75 rfl rfl ?_
          refine g_goto (t := 80) dX0_left_76 (by decide) ?_
          refine g_iast (q := 81) dX0_left_80 hL.2.1 (by omega) (by omega)  rfl ?_
          refine g_iinc (q := 84) dX0_left_81 rfl gs5 rfl ?_
          refine g_goto (t := 45) dX0_left_84 (by decide) ?_
          first
          | exact ih' n (by unfold lfP; rw [if_pos (by omega)])
          | exact ih' 0 (by unfold lfP; rw [if_neg (by omega)])
theorem c_leftX (hX : (XR E x mf ow h w hs si lo bk uW uH uB iL iS tp td fk fp my wd uN)) (hw : WFw w) (hh : HSok B hs) (hZ : HZ w hs) (hB0 : 0 ≤ B) (hB : B ≤ 600000000) (hkn : in32 kn) (h1 : in32 r) (h2 : in32 n) (h3 : in32 days) (h4 : in32 v) :
    CALL E iX0_left (d + 1310) 0 0 [.ref x, vI r, vI n, vI days, vI v] h (qP fun o k => o = vI (if isPl w r n days ∧ 0 ≤ v ∧ v ≤ 2 then mLeftD w hs (-1) kn r n days v else -1) ∧ (XR E x mf ow k w hs si lo bk uW uH uB iL iS tp td fk fp my wd uN)) := by
  obtain ⟨bl, pl, bp, hbl, hL⟩ := XPL.of hX
  have q1 := h4.1
  have q2 := h4.2
  by_cases z : isPl w r n days ∧ 0 ≤ v ∧ v ≤ 2
  · rw [if_pos z]
    unfold mLeftD
    show GO E iX0_left _ _ _ 0 [some (.ref x), some (vI r), some (vI n), some (vI days), some (vI v), none] [] _ _
    refine g_aload_n (q := 1) dX0_left_0 rfl rfl ?_
    refine g_iload_n (q := 2) dX0_left_1 rfl rfl ?_
    refine g_iload_n (q := 3) dX0_left_2 rfl rfl ?_
    refine g_iload_n (q := 4) dX0_left_3 rfl rfl ?_
    refine g_cv (I' := iX0_isSpread) (mc := 0) (ms := 0) (rc := 0) (rs := 0) (ci := 0) (q := 7) dX0_left_4 q1304 q1306 rfl qs37 gcX0_isSpread hL.1 (GO.deep (c_isSpreadX (d := 0) hX h1 h2 h3 ⟨hw.2.1.1, hw.2.1.2⟩) (by omega)) rfl rfl ?_
    refine g_ifeqB (t := 23) (q := 10) dX0_left_7 (by decide) rfl (fun c7 => ?_) (fun c7 => ?_)
    · exact absurd z.1 c7
    · refine g_iload (q := 12) dX0_left_10 rfl rfl ?_
      refine g_i2l (q := 13) dX0_left_12 (by first | assumption | exact in32_gB | exact in32_gCmp | (unfold in32; omega)) rfl ?_
      refine g_lconst0 (q := 14) dX0_left_13 rfl ?_
      refine g_ldc2 (a := 2) (q := 17) dX0_left_14 q1187 (by decide) rfl ?_
      refine g_cs (I' := iX0_in) (mc := 0) (ms := 0) (rc := 0) (rs := 0) (q := 20) dX0_left_17 q130 q131 gcX0_in (c_inX (by unfold in64; omega) (by unfold in64; omega) (by unfold in64; omega)) rfl rfl ?_
      refine g_ifneB (t := 25) (q := 23) dX0_left_20 (by decide) rfl (fun c20 => ?_) (fun c20 => ?_)
      · refine g_iload (q := 27) dX0_left_25 rfl rfl ?_
        refine g_if_ne (t := 42) (q := 30) dX0_left_27 (by decide) rfl (by first | assumption | exact in32_gB | exact in32_gCmp | (unfold in32; omega)) (fun c27 => ?_) (fun c27 => ?_)
        · refine g_iconst (q := 43) dX0_left_42 rfl ?_
          refine g_istore (q := 45) dX0_left_43 gs5 rfl ?_
          rw [if_neg c27]
          exact GO.deep (l_leftX (d := 0) (kn := kn) z.1 (by omega) hw hh hZ hB0 hB hkn days.toNat 0 bl pl bp h (by omega) (by omega) hX hL (fun q z1 z2 => absurd z2 (by omega))) (by omega)
        · refine g_aload_n (q := 31) dX0_left_30 rfl rfl ?_
          refine g_iload_n (q := 32) dX0_left_31 rfl rfl ?_
          refine g_iload_n (q := 33) dX0_left_32 rfl rfl ?_
          refine g_iload_n (q := 34) dX0_left_33 rfl rfl ?_
          refine g_cvVP (I' := iX0_spreads) (mc := 0) (ms := 0) (rc := 0) (rs := 0) (ci := 0) (q := 37) dX0_left_34 q1310 q1312 rfl qs38 gcX0_spreads hL.1 (c_spreadsX (kn := kn) hX hw hh hZ hB0 hB hkn z.1) rfl rfl (fun k34 z34 => ?_)
          obtain ⟨bl2, pl2, bp2, hX2, hL2, e1, e2⟩ := z34
          refine g_aload_n (q := 38) dX0_left_37 rfl rfl ?_
          refine g_get (C := RX0) (T := TX0) (ci := 0) (k := 10) (q := 41) dX0_left_38 q528 rfl in_X0 (by decide) hL2.1 rfl rfl ?_
          exact g_iret dX0_left_41 rfl ⟨_, rfl, congrArg vI (by rw [if_pos c27]; exact e2.symm), hX2⟩
      · exact absurd z.2 c20
  · rw [if_neg z]
    show GO E iX0_left _ _ _ 0 [some (.ref x), some (vI r), some (vI n), some (vI days), some (vI v), none] [] _ _
    refine g_aload_n (q := 1) dX0_left_0 rfl rfl ?_
    refine g_iload_n (q := 2) dX0_left_1 rfl rfl ?_
    refine g_iload_n (q := 3) dX0_left_2 rfl rfl ?_
    refine g_iload_n (q := 4) dX0_left_3 rfl rfl ?_
    refine g_cv (I' := iX0_isSpread) (mc := 0) (ms := 0) (rc := 0) (rs := 0) (ci := 0) (q := 7) dX0_left_4 q1304 q1306 rfl qs37 gcX0_isSpread hL.1 (GO.deep (c_isSpreadX (d := 0) hX h1 h2 h3 ⟨hw.2.1.1, hw.2.1.2⟩) (by omega)) rfl rfl ?_
    refine g_ifeqB (t := 23) (q := 10) dX0_left_7 (by decide) rfl (fun c7 => ?_) (fun c7 => ?_)
    · refine g_iconst (q := 24) dX0_left_23 rfl ?_
      exact g_iret dX0_left_24 rfl ⟨_, rfl, rfl, hX⟩
    · refine g_iload (q := 12) dX0_left_10 rfl rfl ?_
      refine g_i2l (q := 13) dX0_left_12 (by first | assumption | exact in32_gB | exact in32_gCmp | (unfold in32; omega)) rfl ?_
      refine g_lconst0 (q := 14) dX0_left_13 rfl ?_
      refine g_ldc2 (a := 2) (q := 17) dX0_left_14 q1187 (by decide) rfl ?_
      refine g_cs (I' := iX0_in) (mc := 0) (ms := 0) (rc := 0) (rs := 0) (q := 20) dX0_left_17 q130 q131 gcX0_in (c_inX (by unfold in64; omega) (by unfold in64; omega) (by unfold in64; omega)) rfl rfl ?_
      refine g_ifneB (t := 25) (q := 23) dX0_left_20 (by decide) rfl (fun c20 => ?_) (fun c20 => ?_)
      · exact absurd ⟨c7, c20⟩ z
      · refine g_iconst (q := 24) dX0_left_23 rfl ?_
        exact g_iret dX0_left_24 rfl ⟨_, rfl, rfl, hX⟩
end
