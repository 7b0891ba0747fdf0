/-! THE COMPONENT: a head's reading -/
set_option maxRecDepth 100000
theorem mMix_app {w : Int → Int} {kl kn a b : Int} : ∀ (n m : Nat) (c : Int) (hs : Int → Int), mMixL w kl kn a b (n + m) c hs = mMixL w kl kn a b m (c + n) (mMixL w kl kn a b n c hs) := by
  intro n
  induction n with
  | zero => intro m c hs; rw [Nat.zero_add]; show _ = mMixL w kl kn a b m (c + ((0 : Nat) : Int)) hs; rw [show c + ((0 : Nat) : Int) = c from Int.add_zero c]
  | succ n ih =>
    intro m c hs
    rw [Nat.succ_add]
    show mMixL w kl kn a b (n + m) (c + 1) _ = mMixL w kl kn a b m (c + ((n + 1 : Nat) : Int)) (mMixL w kl kn a b n (c + 1) _)
    rw [ih, show c + 1 + (n : Int) = c + ((n + 1 : Nat) : Int) by omega]
theorem HZ.mix {w : Int → Int} {kl kn a b : Int} (ha : 0 ≤ a ∧ a < 24) (ha1 : a < w 1) (hw1 : w 1 ≤ 24) : ∀ (n : Nat) (c : Int) (hs : Int → Int), HZ w hs → 0 ≤ c → c + n ≤ w 1 → HZ w (mMixL w kl kn a b n c hs) := by
  intro n
  induction n with
  | zero => intro c hs h _ _; exact h
  | succ n ih =>
    intro c hs h h0 h1
    refine ih (c + 1) _ ?_ (by omega) (by omega)
    split
    · exact h.chg (by decide) ha ⟨h0, by rw [if_neg (by decide)]; omega⟩ ha1 (fun _ => by omega)
    · exact h
theorem mMix_idle {w : Int → Int} {kl kn a b : Int} {hs : Int → Int} (ha : 0 ≤ a ∧ a < 24) (h : HZ w hs) : ∀ (n : Nat) (c : Int), 0 ≤ c → w 1 ≤ c → c + n ≤ 24 → mMixL w kl kn a b n c hs = hs := by
  intro n
  induction n with
  | zero => intro c _ _ _; rfl
  | succ n ih =>
    intro c h0 h1 h2
    have z := h 0 a c (by decide) ha ⟨h0, by rw [if_neg (by decide)]; omega⟩ (Or.inr ⟨by decide, h1⟩)
    show mMixL w kl kn a b n (c + 1) (if c ≠ b ∧ 0 < hs (lkA 0 a c) then _ else hs) = hs
    rw [if_neg (by omega)]
    exact ih (c + 1) (by omega) (by omega) (by omega)
theorem mMix_all {w : Int → Int} {kl kn a b : Int} {hs : Int → Int} (ha : 0 ≤ a ∧ a < 24) (ha1 : a < w 1) (hw1 : w 1 ≤ 24) (h : HZ w hs) : mMixL w kl kn a b 24 0 hs = mMixL w kl kn a b (w 1).toNat 0 hs := by
  have e : (24 : Nat) = (w 1).toNat + (24 - (w 1).toNat) := by omega
  rw [e, mMix_app]
  exact mMix_idle ha (HZ.mix ha ha1 hw1 _ _ _ h (by omega) (by omega)) _ _ (by omega) (by omega) (by omega)
section
variable {E : gE} {d p t ra : Nat} {G : gH} {hs w g : Int → Int} {kl kn v s a b c has th B h1 e1 t1 o1 b1 r i : Int} {Q : Outcome → gH → Prop}
/-- the links beside, head at 73 -/
theorem l_mixX {n : Nat} {bb : Int} (hT : TXT E (avH p) G.1 w kl kn t) (hw : WFw w) (hB : B ≤ 1000000000) (hkn : in32 kn) (hra : ¬ avH p ra) (hrc : G.1 ra = some (aI E n g)) (hi : 0 ≤ i ∧ i < n) (hn : n ≤ 12) (hbb : g i = bb) (hb0 : 0 ≤ bb ∧ bb < 24) (ha : 0 ≤ a ∧ a < w 1) :
    ∀ (f : Nat) (c : Int) (hs : Int → Int) (h1 e1 t1 o1 b1 : Int), HSok B hs → HZ w hs → 0 ≤ c → c + f = 24 →
    (∀ h2 e2 t2 o2 b2 : Int, GO E iX3_reads (d + 1302) 0 0 117 [some (.ref p), some (.ref ra), some (vI i), some (vI a), some (vI 24)] [] (hH E G p (some t) (mMixL w kl kn a bb f c hs) (akO h2 e2 t2 o2 b2)) Q) →
    GO E iX3_reads (d + 1302) 0 0 73 [some (.ref p), some (.ref ra), some (vI i), some (vI a), some (vI c)] [] (hH E G p (some t) hs (akO h1 e1 t1 o1 b1)) Q := by
  have hw1 := hw.1
  have ot : ∀ (hs : Int → Int) (ak : va_E), (hH E G p (some t) hs ak).1 ra = some (aI E n g) := fun hs ak => (blk_out (by unfold avH at hra; omega)).trans hrc
  intro f
  induction f with
  | zero =>
    intro c hs h1 e1 t1 o1 b1 q1 q2 q3 q4 kk
    obtain rfl : c = 24 := by omega
    refine g_iload (q := 75) dX3_reads_73 rfl rfl ?_
    refine g_bipush (q := 77) dX3_reads_75 rfl ?_
    refine g_icmp_ge (t := 117) (q := 80) dX3_reads_77 (by decide) rfl (by first | assumption | exact in32_gB | exact in32_gCmp | (unfold in32; omega)) (by first | assumption | exact in32_gB | exact in32_gCmp | (unfold in32; omega)) (fun c77 => ?_) (fun c77 => ?_)
    · exact kk _ _ _ _ _
    · exact absurd c77 (by decide)
  | succ f ih =>
    intro c hs h1 e1 t1 o1 b1 q1 q2 q3 q4 kk
    have hlk := lk_lt (s := 0) (a := a) (b := c) (by decide) (by omega) ⟨q3, by rw [if_neg (by decide)]; omega⟩
    have hkk := q1.1 _ hlk.1 hlk.2
    have hxl : xl hs 0 a c = hs (lkA 0 a c) := xl_in q3 (by rw [if_neg (by decide)]; omega)
    replace kk : ∀ h2 e2 t2 o2 b2 : Int, GO E iX3_reads (d + 1302) 0 0 117 [some (.ref p), some (.ref ra), some (vI i), some (vI a), some (vI 24)] [] (hH E G p (some t) (mMixL w kl kn a bb f (c + 1) (if c ≠ bb ∧ 0 < hs (lkA 0 a c) then mChg hs (lkA 0 a c) (-(comes w hs kl kn 8 (hs (lkA 0 a c)) (w (10 + c)))) else hs)) (akO h2 e2 t2 o2 b2)) Q := kk
    have emv : mvV w hs kl kn 2 0 a c = -(comes w hs kl kn 8 (hs (lkA 0 a c)) (w (10 + c))) := by
      unfold mvV lawN
      rw [if_neg (by decide), if_pos rfl, if_neg (by decide)]
    refine g_iload (q := 75) dX3_reads_73 rfl rfl ?_
    refine g_bipush (q := 77) dX3_reads_75 rfl ?_
    refine g_icmp_ge (t := 117) (q := 80) dX3_reads_77 (by decide) rfl (by first | assumption | exact in32_gB | exact in32_gCmp | (unfold in32; omega)) (by first | assumption | exact in32_gB | exact in32_gCmp | (unfold in32; omega)) (fun c77 => ?_) (fun c77 => ?_)
    · exact absurd c77 (by omega)
    · refine g_iload (q := 82) dX3_reads_80 rfl rfl ?_
      refine g_aload_n (q := 83) dX3_reads_82 rfl rfl ?_
      refine g_iload_n (q := 84) dX3_reads_83 rfl rfl ?_
      refine g_iald (q := 85) dX3_reads_84 (ot _ _) (by omega) (by omega) rfl ?_
      rw [hbb]
      refine g_icmp_eq (t := 111) (q := 88) dX3_reads_85 (by decide) rfl (by first | assumption | exact in32_gB | exact in32_gCmp | (unfold in32; omega)) (by first | assumption | exact in32_gB | exact in32_gCmp | (unfold in32; omega)) (fun c85 => ?_) (fun c85 => ?_)
      · refine g_iinc (q := 114) dX3_reads_111 rfl gs4 rfl ?_
        refine g_goto (t := 73) dX3_reads_114 (by decide) ?_
        first
        | (rw [if_neg (by omega)] at kk; exact ih _ _ _ _ _ _ _ q1 q2 (by omega) (by omega) kk)
        | exact ih _ _ _ _ _ _ _ (q1.chg hlk.1 hlk.2) (q2.chg (by decide) (by omega) ⟨q3, by rw [if_neg (by decide)]; omega⟩ ha.2 (fun _ => by by_cases z : c < w 1; exact z; exact absurd (q2 0 a c (by decide) (by omega) ⟨q3, by rw [if_neg (by decide)]; omega⟩ (Or.inr ⟨by decide, by omega⟩)) (by omega))) (by omega) (by omega) kk
      · refine g_aload_n (q := 89) dX3_reads_88 rfl rfl ?_
        refine g_get (C := RX3) (T := TX3) (ci := 4) (k := 0) (q := 92) dX3_reads_89 q450 rfl in_X3 (by decide) hO rfl rfl ?_
        refine g_iconst (q := 93) dX3_reads_92 rfl ?_
        refine g_aald (t0 := 6) (q := 94) dX3_reads_93 hL rfl rfl (by omega) (by omega) rfl ?_
        refine g_iload_n (q := 95) dX3_reads_94 rfl rfl ?_
        refine g_aald (t0 := 5) (q := 96) dX3_reads_95 (hM (s := 0) (by omega) (by omega)) rfl rfl (by omega) (by omega) rfl ?_
        refine g_iload (q := 98) dX3_reads_96 rfl rfl ?_
        refine g_iald (q := 99) dX3_reads_98 (hI (s := 0) (by omega) (by omega) (by omega) (by omega)) (by omega) (by omega) rfl ?_
        rw [hxl]
        refine g_if_le (t := 111) (q := 102) dX3_reads_99 (by decide) rfl (by first | assumption | exact in32_gB | exact in32_gCmp | (unfold in32; omega)) (fun c99 => ?_) (fun c99 => ?_)
        · refine g_iinc (q := 114) dX3_reads_111 rfl gs4 rfl ?_
          refine g_goto (t := 73) dX3_reads_114 (by decide) ?_
          first
          | (rw [if_neg (by omega)] at kk; exact ih _ _ _ _ _ _ _ q1 q2 (by omega) (by omega) kk)
          | exact ih _ _ _ _ _ _ _ (q1.chg hlk.1 hlk.2) (q2.chg (by decide) (by omega) ⟨q3, by rw [if_neg (by decide)]; omega⟩ ha.2 (fun _ => by by_cases z : c < w 1; exact z; exact absurd (q2 0 a c (by decide) (by omega) ⟨q3, by rw [if_neg (by decide)]; omega⟩ (Or.inr ⟨by decide, by omega⟩)) (by omega))) (by omega) (by omega) kk
        · refine g_aload_n (q := 103) dX3_reads_102 rfl rfl ?_
          refine g_iconst (q := 104) dX3_reads_103 rfl ?_
          refine g_iconst (q := 105) dX3_reads_104 rfl ?_
          refine g_iload_n (q := 106) dX3_reads_105 rfl rfl ?_
          refine g_iload (q := 108) dX3_reads_106 rfl rfl ?_
          refine g_cvVP (I' := iX3_moves) (mc := 0) (ms := 0) (rc := 0) (rs := 0) (ci := 4) (q := 111) dX3_reads_108 q1017 q1019 rfl qs29 gcX3_moves hO (c_moves (d := d) hT hw q1 hB hkn (by omega) (by omega) (by omega) (by omega) ⟨q3, by rw [if_neg (by decide)]; omega⟩) rfl rfl (fun k108 z108 => ?_)
          obtain ⟨h2, e2, t2, o2, b2, rfl⟩ := z108
          rw [emv]
          rw [if_pos ⟨c85, c99⟩] at kk
          refine g_iinc (q := 114) dX3_reads_111 rfl gs4 rfl ?_
          refine g_goto (t := 73) dX3_reads_114 (by decide) ?_
          first
          | (rw [if_neg (by omega)] at kk; exact ih _ _ _ _ _ _ _ q1 q2 (by omega) (by omega) kk)
          | exact ih _ _ _ _ _ _ _ (q1.chg hlk.1 hlk.2) (q2.chg (by decide) (by omega) ⟨q3, by rw [if_neg (by decide)]; omega⟩ ha.2 (fun _ => by by_cases z : c < w 1; exact z; exact absurd (q2 0 a c (by decide) (by omega) ⟨q3, by rw [if_neg (by decide)]; omega⟩ (Or.inr ⟨by decide, by omega⟩)) (by omega))) (by omega) (by omega) kk
theorem HZ.grow {s2 e : Int} (h : HZ w hs) (h1 : 0 ≤ s2 ∧ s2 < 4) (h2 : 0 ≤ a ∧ a < 24) (h3 : 0 ≤ b ∧ b < (if s2 = 3 then 12 else 24)) (ha : a < w 1) (hb : s2 ≠ 3 → b < w 1) : HZ w (mGrow w hs kl kn s2 a b e) := h.chg h1 h2 h3 ha hb
/-- one thing of a row, head at 2, then at 117 -/
theorem l_readX (hT : TXT E (avH p) G.1 w kl kn t) (hw : WFw w) (hB : B ≤ 1000000000) (hkn : in32 kn) (hr : 0 ≤ r) (hr1 : r < w 2) (hR : ROWc E (avH p) G.1 w r ra) :
    ∀ (f : Nat) (i : Int) (hs : Int → Int) (h1 e1 t1 o1 b1 : Int) (x3 x4 : Option Value), HSok B hs → HZ w hs → 0 ≤ i → i + f = w (34 + 14 * r) →
    (∀ (h2 e2 t2 o2 b2 : Int) (x3 x4 : Option Value), HSok B (mRdL w kl kn r f i hs) → HZ w (mRdL w kl kn r f i hs) → GO E iX3_reads (d + 1302) 0 0 123 [some (.ref p), some (.ref ra), some (vI (w (34 + 14 * r))), x3, x4] [] (hH E G p (some t) (mRdL w kl kn r f i hs) (akO h2 e2 t2 o2 b2)) Q) →
    GO E iX3_reads (d + 1302) 0 0 2 [some (.ref p), some (.ref ra), some (vI i), x3, x4] [] (hH E G p (some t) hs (akO h1 e1 t1 o1 b1)) Q := by
  have hw1 := hw.1
  have hrw := hw.row hr hr1
  obtain ⟨hra, g, hrc, hg⟩ := hR
  have ot : ∀ (hs : Int → Int) (ak : va_E), (hH E G p (some t) hs ak).1 ra = some (aI E (w (34 + 14 * r)).toNat g) := fun hs ak => (blk_out (by unfold avH at hra; omega)).trans hrc
  have en : (((w (34 + 14 * r)).toNat : Nat) : Int) = w (34 + 14 * r) := Int.toNat_of_nonneg (by omega)
  intro f
  induction f with
  | zero =>
    intro i hs h1 e1 t1 o1 b1 x3 x4 q1 q2 q3 q4 kk
    obtain rfl : i = w (34 + 14 * r) := by omega
    refine g_iload_n (q := 3) dX3_reads_2 rfl rfl ?_
    refine g_aload_n (q := 4) dX3_reads_3 rfl rfl ?_
    refine g_alen 0 (q := 5) dX3_reads_4 (ot _ _) rfl rfl rfl ?_
    rw [en]
    refine g_icmp_ge (t := 123) (q := 8) dX3_reads_5 (by decide) rfl (by first | assumption | exact in32_gB | exact in32_gCmp | (unfold in32; omega)) (by first | assumption | exact in32_gB | exact in32_gCmp | (unfold in32; omega)) (fun c5 => ?_) (fun c5 => ?_)
    · exact kk _ _ _ _ _ _ _ q1 q2
    · exact absurd c5 (by omega)
  | succ f ih =>
    intro i hs h1 e1 t1 o1 b1 x3 x4 q1 q2 q3 q4 kk
    have hti := hw.thing hr hr1 q3 (show i < w (34 + 14 * r) by omega)
    have egi : g i = thg w r i := hg i q3 (by omega)
    replace hti : 0 ≤ thg w r i ∧ thg w r i < w 1 := hti
    have s12 : (0 : Int) ≤ i ∧ i < (if (3 : Int) = 3 then 12 else 24) := ⟨q3, by rw [if_pos rfl]; omega⟩
    -- behind the thing
    have k117 : ∀ (hs2 : Int → Int) (h2 e2 t2 o2 b2 : Int) (x3 x4 : Option Value), hs2 = mRdI w kl kn r i hs → HSok B hs2 → HZ w hs2 → GO E iX3_reads (d + 1302) 0 0 117 [some (.ref p), some (.ref ra), some (vI i), x3, x4] [] (hH E G p (some t) hs2 (akO h2 e2 t2 o2 b2)) Q := by
      intro hs2 h2 e2 t2 o2 b2 x3 x4 e z1 z2
      subst e
      refine g_iinc (q := 120) dX3_reads_117 rfl gs2 rfl ?_
      refine g_goto (t := 2) dX3_reads_120 (by decide) ?_
      exact ih (i + 1) _ _ _ _ _ _ _ _ z1 z2 (by omega) (by omega) kk
    have g1 := q1.grow (w := w) (kl := kl) (kn := kn) (e := thg w r i) (show (0 : Int) ≤ 3 by decide) (by decide) hti.1 (show thg w r i < 24 by omega) q3 (show i < 24 by omega) (fun _ => by omega)
    have y1 := q2.grow (kl := kl) (kn := kn) (e := thg w r i) (s2 := 3) (by decide) ⟨hti.1, by omega⟩ s12 hti.2 (fun z => absurd rfl z)
    by_cases z0 : i = 0
    · refine g_iload_n (q := 3) dX3_reads_2 rfl rfl ?_
      refine g_aload_n (q := 4) dX3_reads_3 rfl rfl ?_
      refine g_alen 0 (q := 5) dX3_reads_4 (ot _ _) rfl rfl rfl ?_
      rw [en]
      refine g_icmp_ge (t := 123) (q := 8) dX3_reads_5 (by decide) rfl (by first | assumption | exact in32_gB | exact in32_gCmp | (unfold in32; omega)) (by first | assumption | exact in32_gB | exact in32_gCmp | (unfold in32; omega)) (fun c5 => ?_) (fun c5 => ?_)
      · exact absurd c5 (by omega)
      · refine g_aload_n (q := 9) dX3_reads_8 rfl rfl ?_
        refine g_iconst (q := 10) dX3_reads_9 rfl ?_
        refine g_iconst (q := 11) dX3_reads_10 rfl ?_
        refine g_aload_n (q := 12) dX3_reads_11 rfl rfl ?_
        refine g_iload_n (q := 13) dX3_reads_12 rfl rfl ?_
        refine g_iald (q := 14) dX3_reads_13 (ot _ _) (by omega) (by omega) rfl ?_
        rw [egi]
        refine g_iload_n (q := 15) dX3_reads_14 rfl rfl ?_
        refine g_cvVP (I' := iX3_moves) (mc := 0) (ms := 0) (rc := 0) (rs := 0) (ci := 4) (q := 18) dX3_reads_15 q1017 q1019 rfl qs29 gcX3_moves hO (c_moves (d := d) hT hw q1 hB hkn (by omega) (by omega) (by omega) (by omega) s12) rfl rfl (fun k15 z15 => ?_)
        obtain ⟨h2, e2, t2, o2, b2, rfl⟩ := z15
        rw [mvV_grow (e := thg w r i) (by rw [if_pos rfl])]
        refine g_iload_n (q := 19) dX3_reads_18 rfl rfl ?_
        refine g_if_ne (t := 25) (q := 22) dX3_reads_19 (by decide) rfl (by first | assumption | exact in32_gB | exact in32_gCmp | (unfold in32; omega)) (fun c19 => ?_) (fun c19 => ?_)
        · exact absurd z0 c19
        · refine g_goto (t := 117) dX3_reads_22 (by decide) ?_
          exact k117 _ _ _ _ _ _ _ _ (by unfold mRdI mRdG; rw [if_pos z0, if_pos z0]) g1 y1
    · have hta := hw.thing hr hr1 (show 0 ≤ i - 1 by omega) (show i - 1 < w (34 + 14 * r) by omega)
      have ega : g (i - 1) = thg w r (i - 1) := hg (i - 1) (by omega) (by omega)
      replace hta : 0 ≤ thg w r (i - 1) ∧ thg w r (i - 1) < w 1 := hta
      have g2 := g1.grow (w := w) (kl := kl) (kn := kn) (e := thg w r i) (show (0 : Int) ≤ 0 by decide) (by decide) hta.1 (show thg w r (i - 1) < 24 by omega) hti.1 (show thg w r i < 24 by omega) (fun z => absurd z (by decide))
      have y2 := y1.grow (kl := kl) (kn := kn) (e := thg w r i) (s2 := 0) (by decide) ⟨hta.1, by omega⟩ ⟨hti.1, by rw [if_neg (by decide)]; omega⟩ hta.2 (fun z => hti.2)
      have g3 := g2.grow (w := w) (kl := kl) (kn := kn) (e := thg w r (i - 1)) (show (0 : Int) ≤ 1 by decide) (by decide) hti.1 (show thg w r i < 24 by omega) hta.1 (show thg w r (i - 1) < 24 by omega) (fun z => absurd z (by decide))
      have y3 := y2.grow (kl := kl) (kn := kn) (e := thg w r (i - 1)) (s2 := 1) (by decide) ⟨hti.1, by omega⟩ ⟨hta.1, by rw [if_neg (by decide)]; omega⟩ hti.2 (fun z => hta.2)
      -- the links beside
      have k73 : ∀ (hs2 : Int → Int) (h2 e2 t2 o2 b2 : Int), hs2 = mRdG w kl kn r i hs → HSok B hs2 → HZ w hs2 → GO E iX3_reads (d + 1302) 0 0 73 [some (.ref p), some (.ref ra), some (vI i), some (vI (thg w r (i - 1))), some (vI 0)] [] (hH E G p (some t) hs2 (akO h2 e2 t2 o2 b2)) Q := by
        intro hs2 h2 e2 t2 o2 b2 e z1 z2
        refine l_mixX (d := d) hT hw hB hkn hra hrc (by omega) (by omega) egi (by omega) hta 24 0 hs2 _ _ _ _ _ z1 z2 (by omega) (by omega) (fun h3 e3 t3 o3 b3 => ?_)
        have em := mMix_all (kl := kl) (kn := kn) (b := thg w r i) ⟨hta.1, by omega⟩ hta.2 hw1.2 z2
        rw [em]
        refine k117 _ _ _ _ _ _ _ _ (by unfold mRdI; rw [if_neg z0, e]) (HSok.mix hta.1 (by omega) _ _ _ z1 (by omega) (by omega)) (HZ.mix ⟨hta.1, by omega⟩ hta.2 hw1.2 _ _ _ z2 (by omega) (by omega))
      by_cases zi : 1 < i
      · have htc := hw.thing hr hr1 (show 0 ≤ i - 2 by omega) (show i - 2 < w (34 + 14 * r) by omega)
        have egc : g (i - 2) = thg w r (i - 2) := hg (i - 2) (by omega) (by omega)
        replace htc : 0 ≤ thg w r (i - 2) ∧ thg w r (i - 2) < w 1 := htc
        have g4 := g3.grow (w := w) (kl := kl) (kn := kn) (e := thg w r i) (show (0 : Int) ≤ 2 by decide) (by decide) htc.1 (show thg w r (i - 2) < 24 by omega) hti.1 (show thg w r i < 24 by omega) (fun z => absurd z (by decide))
        have y4 := y3.grow (kl := kl) (kn := kn) (e := thg w r i) (s2 := 2) (by decide) ⟨htc.1, by omega⟩ ⟨hti.1, by rw [if_neg (by decide)]; omega⟩ htc.2 (fun z => hti.2)
        refine g_iload_n (q := 3) dX3_reads_2 rfl rfl ?_
        refine g_aload_n (q := 4) dX3_reads_3 rfl rfl ?_
        refine g_alen 0 (q := 5) dX3_reads_4 (ot _ _) rfl rfl rfl ?_
        rw [en]
        refine g_icmp_ge (t := 123) (q := 8) dX3_reads_5 (by decide) rfl (by first | assumption | exact in32_gB | exact in32_gCmp | (unfold in32; omega)) (by first | assumption | exact in32_gB | exact in32_gCmp | (unfold in32; omega)) (fun c5 => ?_) (fun c5 => ?_)
        · exact absurd c5 (by omega)
        · refine g_aload_n (q := 9) dX3_reads_8 rfl rfl ?_
          refine g_iconst (q := 10) dX3_reads_9 rfl ?_
          refine g_iconst (q := 11) dX3_reads_10 rfl ?_
          refine g_aload_n (q := 12) dX3_reads_11 rfl rfl ?_
          refine g_iload_n (q := 13) dX3_reads_12 rfl rfl ?_
          refine g_iald (q := 14) dX3_reads_13 (ot _ _) (by omega) (by omega) rfl ?_
          rw [egi]
          refine g_iload_n (q := 15) dX3_reads_14 rfl rfl ?_
          refine g_cvVP (I' := iX3_moves) (mc := 0) (ms := 0) (rc := 0) (rs := 0) (ci := 4) (q := 18) dX3_reads_15 q1017 q1019 rfl qs29 gcX3_moves hO (c_moves (d := d) hT hw q1 hB hkn (by omega) (by omega) (by omega) (by omega) s12) rfl rfl (fun k15 z15 => ?_)
          obtain ⟨h2, e2, t2, o2, b2, rfl⟩ := z15
          rw [mvV_grow (e := thg w r i) (by rw [if_pos rfl])]
          refine g_iload_n (q := 19) dX3_reads_18 rfl rfl ?_
          refine g_if_ne (t := 25) (q := 22) dX3_reads_19 (by decide) rfl (by first | assumption | exact in32_gB | exact in32_gCmp | (unfold in32; omega)) (fun c19 => ?_) (fun c19 => ?_)
          · refine g_aload_n (q := 26) dX3_reads_25 rfl rfl ?_
            refine g_iload_n (q := 27) dX3_reads_26 rfl rfl ?_
            refine g_iconst (q := 28) dX3_reads_27 rfl ?_
            refine g_isub (q := 29) dX3_reads_28 rfl ?_
            refine g_iald (q := 30) dX3_reads_29 (ot _ _) (by omega) (by omega) rfl ?_
            rw [ega]
            refine g_istore_n (q := 31) dX3_reads_30 gs3 rfl ?_
            refine g_aload_n (q := 32) dX3_reads_31 rfl rfl ?_
            refine g_iconst (q := 33) dX3_reads_32 rfl ?_
            refine g_iconst (q := 34) dX3_reads_33 rfl ?_
            refine g_iload_n (q := 35) dX3_reads_34 rfl rfl ?_
            refine g_aload_n (q := 36) dX3_reads_35 rfl rfl ?_
            refine g_iload_n (q := 37) dX3_reads_36 rfl rfl ?_
            refine g_iald (q := 38) dX3_reads_37 (ot _ _) (by omega) (by omega) rfl ?_
            rw [egi]
            refine g_cvVP (I' := iX3_moves) (mc := 0) (ms := 0) (rc := 0) (rs := 0) (ci := 4) (q := 41) dX3_reads_38 q1017 q1019 rfl qs29 gcX3_moves hO (c_moves (d := d) hT hw g1 hB hkn (by omega) (by omega) (by omega) (by omega) ⟨hti.1, by rw [if_neg (by decide)]; omega⟩) rfl rfl (fun k38 z38 => ?_)
            obtain ⟨h3, e3, t3, o3, b3, rfl⟩ := z38
            rw [mvV_grow (e := thg w r i) (by rw [if_neg (by decide)])]
            refine g_aload_n (q := 42) dX3_reads_41 rfl rfl ?_
            refine g_iconst (q := 43) dX3_reads_42 rfl ?_
            refine g_iconst (q := 44) dX3_reads_43 rfl ?_
            refine g_aload_n (q := 45) dX3_reads_44 rfl rfl ?_
            refine g_iload_n (q := 46) dX3_reads_45 rfl rfl ?_
            refine g_iald (q := 47) dX3_reads_46 (ot _ _) (by omega) (by omega) rfl ?_
            rw [egi]
            refine g_iload_n (q := 48) dX3_reads_47 rfl rfl ?_
            refine g_cvVP (I' := iX3_moves) (mc := 0) (ms := 0) (rc := 0) (rs := 0) (ci := 4) (q := 51) dX3_reads_48 q1017 q1019 rfl qs29 gcX3_moves hO (c_moves (d := d) hT hw g2 hB hkn (by omega) (by omega) (by omega) (by omega) ⟨hta.1, by rw [if_neg (by decide)]; omega⟩) rfl rfl (fun k48 z48 => ?_)
            obtain ⟨h4, e4, t4, o4, b4, rfl⟩ := z48
            rw [mvV_grow (e := thg w r (i - 1)) (by rw [if_neg (by decide)])]
            refine g_iload_n (q := 52) dX3_reads_51 rfl rfl ?_
            refine g_iconst (q := 53) dX3_reads_52 rfl ?_
            refine g_icmp_le (t := 70) (q := 56) dX3_reads_53 (by decide) rfl (by first | assumption | exact in32_gB | exact in32_gCmp | (unfold in32; omega)) (by first | assumption | exact in32_gB | exact in32_gCmp | (unfold in32; omega)) (fun c53 => ?_) (fun c53 => ?_)
            · exact absurd zi (by omega)
            · refine g_aload_n (q := 57) dX3_reads_56 rfl rfl ?_
              refine g_iconst (q := 58) dX3_reads_57 rfl ?_
              refine g_iconst (q := 59) dX3_reads_58 rfl ?_
              refine g_aload_n (q := 60) dX3_reads_59 rfl rfl ?_
              refine g_iload_n (q := 61) dX3_reads_60 rfl rfl ?_
              refine g_iconst (q := 62) dX3_reads_61 rfl ?_
              refine g_isub (q := 63) dX3_reads_62 rfl ?_
              refine g_iald (q := 64) dX3_reads_63 (ot _ _) (by omega) (by omega) rfl ?_
              rw [egc]
              refine g_aload_n (q := 65) dX3_reads_64 rfl rfl ?_
              refine g_iload_n (q := 66) dX3_reads_65 rfl rfl ?_
              refine g_iald (q := 67) dX3_reads_66 (ot _ _) (by omega) (by omega) rfl ?_
              rw [egi]
              refine g_cvVP (I' := iX3_moves) (mc := 0) (ms := 0) (rc := 0) (rs := 0) (ci := 4) (q := 70) dX3_reads_67 q1017 q1019 rfl qs29 gcX3_moves hO (c_moves (d := d) hT hw g3 hB hkn (by omega) (by omega) (by omega) (by omega) ⟨hti.1, by rw [if_neg (by decide)]; omega⟩) rfl rfl (fun k67 z67 => ?_)
              obtain ⟨h5, e5, t5, o5, b5, rfl⟩ := z67
              rw [mvV_grow (e := thg w r i) (by rw [if_neg (by decide)])]
              refine g_iconst (q := 71) dX3_reads_70 rfl ?_
              refine g_istore (q := 73) dX3_reads_71 gs4 rfl ?_
              exact k73 _ _ _ _ _ _ (by unfold mRdG; rw [if_neg z0, if_pos zi]) g4 y4
          · exact absurd c19 z0
      · refine g_iload_n (q := 3) dX3_reads_2 rfl rfl ?_
        refine g_aload_n (q := 4) dX3_reads_3 rfl rfl ?_
        refine g_alen 0 (q := 5) dX3_reads_4 (ot _ _) rfl rfl rfl ?_
        rw [en]
        refine g_icmp_ge (t := 123) (q := 8) dX3_reads_5 (by decide) rfl (by first | assumption | exact in32_gB | exact in32_gCmp | (unfold in32; omega)) (by first | assumption | exact in32_gB | exact in32_gCmp | (unfold in32; omega)) (fun c5 => ?_) (fun c5 => ?_)
        · exact absurd c5 (by omega)
        · refine g_aload_n (q := 9) dX3_reads_8 rfl rfl ?_
          refine g_iconst (q := 10) dX3_reads_9 rfl ?_
          refine g_iconst (q := 11) dX3_reads_10 rfl ?_
          refine g_aload_n (q := 12) dX3_reads_11 rfl rfl ?_
          refine g_iload_n (q := 13) dX3_reads_12 rfl rfl ?_
          refine g_iald (q := 14) dX3_reads_13 (ot _ _) (by omega) (by omega) rfl ?_
          rw [egi]
          refine g_iload_n (q := 15) dX3_reads_14 rfl rfl ?_
          refine g_cvVP (I' := iX3_moves) (mc := 0) (ms := 0) (rc := 0) (rs := 0) (ci := 4) (q := 18) dX3_reads_15 q1017 q1019 rfl qs29 gcX3_moves hO (c_moves (d := d) hT hw q1 hB hkn (by omega) (by omega) (by omega) (by omega) s12) rfl rfl (fun k15 z15 => ?_)
          obtain ⟨h2, e2, t2, o2, b2, rfl⟩ := z15
          rw [mvV_grow (e := thg w r i) (by rw [if_pos rfl])]
          refine g_iload_n (q := 19) dX3_reads_18 rfl rfl ?_
          refine g_if_ne (t := 25) (q := 22) dX3_reads_19 (by decide) rfl (by first | assumption | exact in32_gB | exact in32_gCmp | (unfold in32; omega)) (fun c19 => ?_) (fun c19 => ?_)
          · refine g_aload_n (q := 26) dX3_reads_25 rfl rfl ?_
            refine g_iload_n (q := 27) dX3_reads_26 rfl rfl ?_
            refine g_iconst (q := 28) dX3_reads_27 rfl ?_
            refine g_isub (q := 29) dX3_reads_28 rfl ?_
            refine g_iald (q := 30) dX3_reads_29 (ot _ _) (by omega) (by omega) rfl ?_
            rw [ega]
            refine g_istore_n (q := 31) dX3_reads_30 gs3 rfl ?_
            refine g_aload_n (q := 32) dX3_reads_31 rfl rfl ?_
            refine g_iconst (q := 33) dX3_reads_32 rfl ?_
            refine g_iconst (q := 34) dX3_reads_33 rfl ?_
            refine g_iload_n (q := 35) dX3_reads_34 rfl rfl ?_
            refine g_aload_n (q := 36) dX3_reads_35 rfl rfl ?_
            refine g_iload_n (q := 37) dX3_reads_36 rfl rfl ?_
            refine g_iald (q := 38) dX3_reads_37 (ot _ _) (by omega) (by omega) rfl ?_
            rw [egi]
            refine g_cvVP (I' := iX3_moves) (mc := 0) (ms := 0) (rc := 0) (rs := 0) (ci := 4) (q := 41) dX3_reads_38 q1017 q1019 rfl qs29 gcX3_moves hO (c_moves (d := d) hT hw g1 hB hkn (by omega) (by omega) (by omega) (by omega) ⟨hti.1, by rw [if_neg (by decide)]; omega⟩) rfl rfl (fun k38 z38 => ?_)
            obtain ⟨h3, e3, t3, o3, b3, rfl⟩ := z38
            rw [mvV_grow (e := thg w r i) (by rw [if_neg (by decide)])]
            refine g_aload_n (q := 42) dX3_reads_41 rfl rfl ?_
            refine g_iconst (q := 43) dX3_reads_42 rfl ?_
            refine g_iconst (q := 44) dX3_reads_43 rfl ?_
            refine g_aload_n (q := 45) dX3_reads_44 rfl rfl ?_
            refine g_iload_n (q := 46) dX3_reads_45 rfl rfl ?_
            refine g_iald (q := 47) dX3_reads_46 (ot _ _) (by omega) (by omega) rfl ?_
            rw [egi]
            refine g_iload_n (q := 48) dX3_reads_47 rfl rfl ?_
            refine g_cvVP (I' := iX3_moves) (mc := 0) (ms := 0) (rc := 0) (rs := 0) (ci := 4) (q := 51) dX3_reads_48 q1017 q1019 rfl qs29 gcX3_moves hO (c_moves (d := d) hT hw g2 hB hkn (by omega) (by omega) (by omega) (by omega) ⟨hta.1, by rw [if_neg (by decide)]; omega⟩) rfl rfl (fun k48 z48 => ?_)
            obtain ⟨h4, e4, t4, o4, b4, rfl⟩ := z48
            rw [mvV_grow (e := thg w r (i - 1)) (by rw [if_neg (by decide)])]
            refine g_iload_n (q := 52) dX3_reads_51 rfl rfl ?_
            refine g_iconst (q := 53) dX3_reads_52 rfl ?_
            refine g_icmp_le (t := 70) (q := 56) dX3_reads_53 (by decide) rfl (by first | assumption | exact in32_gB | exact in32_gCmp | (unfold in32; omega)) (by first | assumption | exact in32_gB | exact in32_gCmp | (unfold in32; omega)) (fun c53 => ?_) (fun c53 => ?_)
            · refine g_iconst (q := 71) dX3_reads_70 rfl ?_
              refine g_istore (q := 73) dX3_reads_71 gs4 rfl ?_
              exact k73 _ _ _ _ _ _ (by unfold mRdG; rw [if_neg z0, if_neg zi]) g3 y3
            · exact absurd c53 (by omega)
          · exact absurd c19 z0
theorem HZ.tired (h : HZ w hs) : HZ w (tire hs) := by
  intro s a b q1 q2 q3 q4
  have := lk_lt q1 q2 q3
  unfold tire
  rw [upI_ne (by omega)]
  exact h s a b q1 q2 q3 q4
/-- one reading -/
theorem c_readsX (hT : TXT E (avH p) G.1 w kl kn t) (hw : WFw w) (hh : HSok B hs) (hZ : HZ w hs) (hB : B ≤ 1000000000) (hkn : in32 kn) (hr : 0 ≤ r) (hr1 : r < w 2) (hR : ROWc E (avH p) G.1 w r ra) :
    CALL E iX3_reads (d + 1302) 0 0 [.ref p, .ref ra] (hH E G p (some t) hs (akO h1 e1 t1 o1 b1)) (qVP fun k => HZ w (mReads w hs kl kn r) ∧ hHx E G p t (mReads w hs kl kn r) k) := by
  have hrw := hw.row hr hr1
  show GO E iX3_reads _ _ _ 0 [some (.ref p), some (.ref ra), none, none, none] [] _ _
  refine g_iconst (q := 1) dX3_reads_0 rfl ?_
  refine g_istore_n (q := 2) dX3_reads_1 gs2 rfl ?_
  refine l_readX (d := d) hT hw hB hkn hr hr1 hR (w (34 + 14 * r)).toNat 0 hs _ _ _ _ _ _ _ hh hZ (by omega) (by omega) (fun h2 e2 t2 o2 b2 x3 x4 z1 z2 => ?_)
  refine g_aload_n (q := 124) dX3_reads_123 rfl rfl ?_
  refine g_dup (q := 125) dX3_reads_124 rfl ?_
  refine g_get (C := RX3) (T := TX3) (ci := 4) (k := 4) (q := 128) dX3_reads_125 q456 rfl in_X3 (by decide) hO rfl rfl ?_
  refine g_iconst (q := 129) dX3_reads_128 rfl ?_
  refine g_iadd (q := 130) dX3_reads_129 rfl ?_
  refine g_put (C := RX3) (T := TX3) (ci := 4) (k := 4) (q := 133) dX3_reads_130 q456 rfl in_X3 tyX3_ok nmX3 (by decide) rfl gFit_int hO (Nat.le_of_ble_eq_true rfl) rfl ?_
  refine GO.cast (h' := hH E G p (some t) (tire (mRdL w kl kn r (w (34 + 14 * r)).toNat 0 hs)) (akO h2 e2 t2 o2 b2)) (hUo (hs' := tire (mRdL w kl kn r (w (34 + 14 * r)).toNat 0 hs)) (fun k q1 q2 => upI_ne (by omega))) ?_
  exact g_vret dX3_reads_133 rfl ⟨rfl, z2.tired, _, _, _, _, _, rfl⟩
end
