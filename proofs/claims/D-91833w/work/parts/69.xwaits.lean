/-! THE COMPONENT: a head's hours -/
set_option maxRecDepth 100000
theorem HZ.chg2 {w hs : Int → Int} {s a b v : Int} (h : HZ w hs) (h1 : 0 ≤ s ∧ s < 4) (h2 : 0 ≤ a ∧ a < 24) (h3 : 0 ≤ b ∧ b < (if s = 3 then 12 else 24)) (hp : 0 < hs (lkA s a b)) : HZ w (mChg hs (lkA s a b) v) := by
  refine h.chg h1 h2 h3 ?_ (fun hs3 => ?_)
  · by_cases z : a < w 1
    · exact z
    · have := h s a b h1 h2 h3 (Or.inl (by omega)); omega
  · by_cases z : b < w 1
    · exact z
    · have := h s a b h1 h2 h3 (Or.inr ⟨hs3, by omega⟩); omega
theorem HZ.hrB {w : Int → Int} {kl kn s a : Int} (h1 : 0 ≤ s ∧ s < 4) (h2 : 0 ≤ a ∧ a < 24) : ∀ (n : Nat) (b : Int) (hs : Int → Int), HZ w hs → 0 ≤ b → b + n ≤ (if s = 3 then 12 else 24) → HZ w (mHrB w kl kn s a n b hs) := by
  intro n
  induction n with
  | zero => intro b hs h _ _; exact h
  | succ n ih =>
    intro b hs h h0 h3
    refine ih (b + 1) _ ?_ (by omega) (by omega)
    split
    · rename_i z; exact h.chg2 h1 h2 ⟨h0, by omega⟩ z
    · exact h
theorem hrB_app {w : Int → Int} {kl kn s a : Int} : ∀ (n m : Nat) (b : Int) (hs : Int → Int), mHrB w kl kn s a (n + m) b hs = mHrB w kl kn s a m (b + n) (mHrB w kl kn s a n b hs) := by
  intro n
  induction n with
  | zero => intro m b hs; rw [Nat.zero_add]; show _ = mHrB w kl kn s a m (b + ((0 : Nat) : Int)) hs; rw [show b + ((0 : Nat) : Int) = b from Int.add_zero b]
  | succ n ih =>
    intro m b hs
    rw [Nat.succ_add]
    show mHrB w kl kn s a (n + m) (b + 1) _ = mHrB w kl kn s a m (b + ((n + 1 : Nat) : Int)) (mHrB w kl kn s a n (b + 1) _)
    rw [ih, show b + 1 + (n : Int) = b + ((n + 1 : Nat) : Int) by omega]
theorem hrB_idle {w : Int → Int} {kl kn s a : Int} {hs : Int → Int} (h1 : 0 ≤ s ∧ s < 4) (h2 : 0 ≤ a ∧ a < 24) (h : HZ w hs) : ∀ (n : Nat) (b : Int), 0 ≤ b → (w 1 ≤ a ∨ (s ≠ 3 ∧ w 1 ≤ b)) → b + n ≤ (if s = 3 then 12 else 24) → mHrB w kl kn s a n b hs = hs := by
  intro n
  induction n with
  | zero => intro b _ _ _; rfl
  | succ n ih =>
    intro b h0 h3 h4
    have z := h s a b h1 h2 ⟨h0, by omega⟩ h3
    show mHrB w kl kn s a n (b + 1) (if 0 < hs (lkA s a b) then _ else hs) = hs
    rw [if_neg (by omega)]
    exact ih (b + 1) (by omega) (by omega) (by omega)
theorem hrB_all {w : Int → Int} {kl kn s a : Int} {hs : Int → Int} (h1 : 0 ≤ s ∧ s < 4) (h2 : 0 ≤ a ∧ a < 24) (hw1 : 0 ≤ w 1 ∧ w 1 ≤ 24) (h : HZ w hs) : mHrB w kl kn s a (if s = 3 then 12 else 24) 0 hs = mHrB w kl kn s a (if s = 3 then 12 else (w 1).toNat) 0 hs := by
  by_cases c : s = 3
  · rw [if_pos c, if_pos c]
  · rw [if_neg c, if_neg c]
    have e : (24 : Nat) = (w 1).toNat + (24 - (w 1).toNat) := by omega
    rw [e, hrB_app]
    exact hrB_idle h1 h2 (HZ.hrB h1 h2 _ _ _ h (by omega) (by rw [if_neg c]; omega)) _ _ (by omega) (Or.inr ⟨c, by omega⟩) (by rw [if_neg c]; omega)
theorem HZ.hrA {w : Int → Int} {kl kn s : Int} (h1 : 0 ≤ s ∧ s < 4) (hw1 : 0 ≤ w 1 ∧ w 1 ≤ 24) : ∀ (n : Nat) (a : Int) (hs : Int → Int), HZ w hs → 0 ≤ a → a + n ≤ 24 → HZ w (mHrA w kl kn s n a hs) := by
  intro n
  induction n with
  | zero => intro a hs h _ _; exact h
  | succ n ih =>
    intro a hs h h0 h3
    refine ih (a + 1) _ (HZ.hrB h1 ⟨h0, by omega⟩ _ _ _ h (by omega) ?_) (by omega) (by omega)
    split <;> omega
theorem hrA_app {w : Int → Int} {kl kn s : Int} : ∀ (n m : Nat) (a : Int) (hs : Int → Int), mHrA w kl kn s (n + m) a hs = mHrA w kl kn s m (a + n) (mHrA w kl kn s n a hs) := by
  intro n
  induction n with
  | zero => intro m a hs; rw [Nat.zero_add]; show _ = mHrA w kl kn s m (a + ((0 : Nat) : Int)) hs; rw [show a + ((0 : Nat) : Int) = a from Int.add_zero a]
  | succ n ih =>
    intro m a hs
    rw [Nat.succ_add]
    show mHrA w kl kn s (n + m) (a + 1) _ = mHrA w kl kn s m (a + ((n + 1 : Nat) : Int)) (mHrA w kl kn s n (a + 1) _)
    rw [ih, show a + 1 + (n : Int) = a + ((n + 1 : Nat) : Int) by omega]
theorem hrA_idle {w : Int → Int} {kl kn s : Int} {hs : Int → Int} (h1 : 0 ≤ s ∧ s < 4) (hw1 : 0 ≤ w 1 ∧ w 1 ≤ 24) (h : HZ w hs) : ∀ (n : Nat) (a : Int), w 1 ≤ a → a + n ≤ 24 → mHrA w kl kn s n a hs = hs := by
  intro n
  induction n with
  | zero => intro a _ _; rfl
  | succ n ih =>
    intro a h0 h3
    show mHrA w kl kn s n (a + 1) (mHrB w kl kn s a (if s = 3 then 12 else (w 1).toNat) 0 hs) = hs
    rw [hrB_idle h1 ⟨by omega, by omega⟩ h _ _ (by omega) (Or.inl h0) (by split <;> omega)]
    exact ih (a + 1) (by omega) (by omega)
theorem hrA_all {w : Int → Int} {kl kn s : Int} {hs : Int → Int} (h1 : 0 ≤ s ∧ s < 4) (hw1 : 0 ≤ w 1 ∧ w 1 ≤ 24) (h : HZ w hs) : mHrA w kl kn s 24 0 hs = mHrA w kl kn s (w 1).toNat 0 hs := by
  have e : (24 : Nat) = (w 1).toNat + (24 - (w 1).toNat) := by omega
  rw [e, hrA_app]
  exact hrA_idle h1 hw1 (HZ.hrA h1 hw1 _ _ _ h (by omega) (by omega)) _ _ (by omega) (by omega)
section
variable {E : gE} {d p t : Nat} {G : gH} {hs w : Int → Int} {kl kn v s a b c B h1 e1 t1 o1 b1 j : Int} {Q : Outcome → gH → Prop}
theorem mvV_fall : mvV w hs kl kn 1 s a b = -(comes w hs kl kn (4 + s) (hs (lkA s a b)) (w (10 + if s = 3 then a else b))) := by
  unfold mvV lawN
  rw [if_neg (by decide), if_neg (by decide)]
  rfl
/-- the links of a thing, head at 27 -/
theorem l_w1 (hT : TXT E (avH p) G.1 w kl kn t) (hw : WFw w) (hB : B ≤ 1000000000) (hkn : in32 kn) (hs0 : 0 ≤ s ∧ s < 4) (ha : 0 ≤ a ∧ a < 24) (hv : in32 v) (hj : in32 j) :
    ∀ (f : Nat) (b : Int) (hs : Int → Int) (h1 e1 t1 o1 b1 : Int), HSok B hs → HZ w hs → 0 ≤ b → b + f = (if s = 3 then 12 else 24) →
    (∀ h2 e2 t2 o2 b2 : Int, GO E iX3_waits (d + 1302) 0 0 27 [some (.ref p), some (vI v), some (vI j), some (vI s), some (vI a), some (vI (if s = 3 then 12 else 24))] [] (hH E G p (some t) (mHrB w kl kn s a f b hs) (akO h2 e2 t2 o2 b2)) Q) →
    GO E iX3_waits (d + 1302) 0 0 27 [some (.ref p), some (vI v), some (vI j), some (vI s), some (vI a), some (vI b)] [] (hH E G p (some t) hs (akO h1 e1 t1 o1 b1)) Q := by
  intro f
  induction f with
  | zero =>
    intro b hs h1 e1 t1 o1 b1 q1 q2 q3 q4 kk
    have e : b = (if s = 3 then 12 else 24) := by omega
    rw [e]
    exact kk _ _ _ _ _
  | succ f ih =>
    intro b hs h1 e1 t1 o1 b1 q1 q2 q3 q4 kk
    have hb : 0 ≤ b ∧ b < (if s = 3 then 12 else 24) := ⟨q3, by omega⟩
    have hb2 : b < 24 := by have := hb.2; split at this <;> omega
    have hlk := lk_lt hs0 ha hb
    have hk := q1.1 _ hlk.1 hlk.2
    have hxl : xl hs s a b = hs (lkA s a b) := xl_in hb.1 hb.2
    replace kk : ∀ h2 e2 t2 o2 b2 : Int, GO E iX3_waits (d + 1302) 0 0 27 [some (.ref p), some (vI v), some (vI j), some (vI s), some (vI a), some (vI (if s = 3 then 12 else 24))] [] (hH E G p (some t) (mHrB w kl kn s a f (b + 1) (if 0 < hs (lkA s a b) then mChg hs (lkA s a b) (-(comes w hs kl kn (4 + s) (hs (lkA s a b)) (w (10 + if s = 3 then a else b)))) else hs)) (akO h2 e2 t2 o2 b2)) Q := kk
    refine g_iload (q := 29) dX3_waits_27 rfl rfl ?_
    refine g_bipush (q := 31) dX3_waits_29 rfl ?_
    refine g_icmp_ge (t := 65) (q := 34) dX3_waits_31 (by decide) rfl (by first | assumption | exact in32_gB | exact in32_gCmp | (unfold in32; omega)) (by first | assumption | exact in32_gB | exact in32_gCmp | (unfold in32; omega)) (fun c31 => ?_) (fun c31 => ?_)
    · exact absurd c31 (by omega)
    · refine g_aload_n (q := 35) dX3_waits_34 rfl rfl ?_
      refine g_get (C := RX3) (T := TX3) (ci := 4) (k := 0) (q := 38) dX3_waits_35 q450 rfl in_X3 (by decide) hO rfl rfl ?_
      refine g_iload_n (q := 39) dX3_waits_38 rfl rfl ?_
      refine g_aald (t0 := 6) (q := 40) dX3_waits_39 hL rfl rfl (by omega) (by omega) rfl ?_
      refine g_iload (q := 42) dX3_waits_40 rfl rfl ?_
      refine g_aald (t0 := 5) (q := 43) dX3_waits_42 (hM (by omega) (by omega)) rfl rfl (by omega) (by omega) rfl ?_
      refine g_iload (q := 45) dX3_waits_43 rfl rfl ?_
      refine g_iald (q := 46) dX3_waits_45 (hI (by omega) (by omega) (by omega) (by omega)) (by omega) (by omega) rfl ?_
      rw [hxl]
      refine g_if_le (t := 59) (q := 49) dX3_waits_46 (by decide) rfl (by first | assumption | exact in32_gB | exact in32_gCmp | (unfold in32; omega)) (fun c46 => ?_) (fun c46 => ?_)
      · refine g_iinc (q := 62) dX3_waits_59 rfl gs5 rfl ?_
        refine g_goto (t := 27) dX3_waits_62 (by decide) ?_
        first
        | (rw [if_neg (show ¬ 0 < hs (lkA s a b) by omega)] at kk; exact ih _ _ _ _ _ _ _ q1 q2 (by omega) (by omega) kk)
        | exact ih _ _ _ _ _ _ _ (q1.chg hlk.1 hlk.2) (q2.chg2 hs0 ha hb c46) (by omega) (by omega) kk
      · refine g_aload_n (q := 50) dX3_waits_49 rfl rfl ?_
        refine g_iconst (q := 51) dX3_waits_50 rfl ?_
        refine g_iload_n (q := 52) dX3_waits_51 rfl rfl ?_
        refine g_iload (q := 54) dX3_waits_52 rfl rfl ?_
        refine g_iload (q := 56) dX3_waits_54 rfl rfl ?_
        refine g_cvVP (I' := iX3_moves) (mc := 0) (ms := 0) (rc := 0) (rs := 0) (ci := 4) (q := 59) dX3_waits_56 q1017 q1019 rfl qs29 gcX3_moves hO (c_moves (d := d) hT hw q1 hB hkn (by omega) hs0 (by omega) ha hb) rfl rfl (fun k56 z56 => ?_)
        obtain ⟨h2, e2, t2, o2, b2, rfl⟩ := z56
        rw [mvV_fall]
        rw [if_pos c46] at kk
        refine g_iinc (q := 62) dX3_waits_59 rfl gs5 rfl ?_
        refine g_goto (t := 27) dX3_waits_62 (by decide) ?_
        first
        | (rw [if_neg (show ¬ 0 < hs (lkA s a b) by omega)] at kk; exact ih _ _ _ _ _ _ _ q1 q2 (by omega) (by omega) kk)
        | exact ih _ _ _ _ _ _ _ (q1.chg hlk.1 hlk.2) (q2.chg2 hs0 ha hb c46) (by omega) (by omega) kk
/-- the places beyond twelve -/
theorem l_w2 (hv : in32 v) (hj : in32 j) (ha : 0 ≤ a ∧ a < 24) (kk : GO E iX3_waits (d + 1302) 0 0 65 [some (.ref p), some (vI v), some (vI j), some (vI 3), some (vI a), some (vI 24)] [] (hH E G p (some t) hs (akO h1 e1 t1 o1 b1)) Q) :
    ∀ (f : Nat) (b : Int), 12 ≤ b → b + f = 24 → GO E iX3_waits (d + 1302) 0 0 27 [some (.ref p), some (vI v), some (vI j), some (vI 3), some (vI a), some (vI b)] [] (hH E G p (some t) hs (akO h1 e1 t1 o1 b1)) Q := by
  intro f
  induction f with
  | zero =>
    intro b h0 h1'
    obtain rfl : b = 24 := by omega
    refine g_iload (q := 29) dX3_waits_27 rfl rfl ?_
    refine g_bipush (q := 31) dX3_waits_29 rfl ?_
    refine g_icmp_ge (t := 65) (q := 34) dX3_waits_31 (by decide) rfl (by first | assumption | exact in32_gB | exact in32_gCmp | (unfold in32; omega)) (by first | assumption | exact in32_gB | exact in32_gCmp | (unfold in32; omega)) (fun c31 => ?_) (fun c31 => ?_)
    · exact kk
    · exact absurd c31 (by decide)
  | succ f ih =>
    intro b h0 h1'
    have hxl : xl hs 3 a b = 0 := by unfold xl; rw [if_pos rfl, if_neg (by omega)]
    refine g_iload (q := 29) dX3_waits_27 rfl rfl ?_
    refine g_bipush (q := 31) dX3_waits_29 rfl ?_
    refine g_icmp_ge (t := 65) (q := 34) dX3_waits_31 (by decide) rfl (by first | assumption | exact in32_gB | exact in32_gCmp | (unfold in32; omega)) (by first | assumption | exact in32_gB | exact in32_gCmp | (unfold in32; omega)) (fun c31 => ?_) (fun c31 => ?_)
    · exact absurd c31 (by omega)
    · refine g_aload_n (q := 35) dX3_waits_34 rfl rfl ?_
      refine g_get (C := RX3) (T := TX3) (ci := 4) (k := 0) (q := 38) dX3_waits_35 q450 rfl in_X3 (by decide) hO rfl rfl ?_
      refine g_iload_n (q := 39) dX3_waits_38 rfl rfl ?_
      refine g_aald (t0 := 6) (q := 40) dX3_waits_39 hL rfl rfl (by omega) (by omega) rfl ?_
      refine g_iload (q := 42) dX3_waits_40 rfl rfl ?_
      refine g_aald (t0 := 5) (q := 43) dX3_waits_42 (hM (s := 3) (by omega) (by omega)) rfl rfl (by omega) (by omega) rfl ?_
      refine g_iload (q := 45) dX3_waits_43 rfl rfl ?_
      refine g_iald (q := 46) dX3_waits_45 (hI (s := 3) (by omega) (by omega) (by omega) (by omega)) (by omega) (by omega) rfl ?_
      rw [hxl]
      refine g_if_le (t := 59) (q := 49) dX3_waits_46 (by decide) rfl (by first | assumption | exact in32_gB | exact in32_gCmp | (unfold in32; omega)) (fun c46 => ?_) (fun c46 => ?_)
      · refine g_iinc (q := 62) dX3_waits_59 rfl gs5 rfl ?_
        refine g_goto (t := 27) dX3_waits_62 (by decide) ?_
        exact ih _ (by omega) (by omega)
      · exact absurd c46 (by decide)
/-- the things of a sort, head at 17 -/
theorem l_w3 (hT : TXT E (avH p) G.1 w kl kn t) (hw : WFw w) (hB : B ≤ 1000000000) (hkn : in32 kn) (hs0 : 0 ≤ s ∧ s < 4) (hv : in32 v) (hj : in32 j) :
    ∀ (f : Nat) (a : Int) (hs : Int → Int) (h1 e1 t1 o1 b1 : Int) (x5 : Option Value), HSok B hs → HZ w hs → 0 ≤ a → a + f = 24 →
    (∀ (h2 e2 t2 o2 b2 : Int) (x5 : Option Value), GO E iX3_waits (d + 1302) 0 0 71 [some (.ref p), some (vI v), some (vI j), some (vI s), some (vI 24), x5] [] (hH E G p (some t) (mHrA w kl kn s f a hs) (akO h2 e2 t2 o2 b2)) Q) →
    GO E iX3_waits (d + 1302) 0 0 17 [some (.ref p), some (vI v), some (vI j), some (vI s), some (vI a), x5] [] (hH E G p (some t) hs (akO h1 e1 t1 o1 b1)) Q := by
  have hw1 := hw.1
  intro f
  induction f with
  | zero =>
    intro a hs h1 e1 t1 o1 b1 x5 q1 q2 q3 q4 kk
    obtain rfl : a = 24 := by omega
    refine g_iload (q := 19) dX3_waits_17 rfl rfl ?_
    refine g_bipush (q := 21) dX3_waits_19 rfl ?_
    refine g_icmp_ge (t := 71) (q := 24) dX3_waits_21 (by decide) rfl (by first | assumption | exact in32_gB | exact in32_gCmp | (unfold in32; omega)) (by first | assumption | exact in32_gB | exact in32_gCmp | (unfold in32; omega)) (fun c21 => ?_) (fun c21 => ?_)
    · exact kk _ _ _ _ _ _
    · exact absurd c21 (by decide)
  | succ f ih =>
    intro a hs h1 e1 t1 o1 b1 x5 q1 q2 q3 q4 kk
    have ha : 0 ≤ a ∧ a < 24 := by omega
    have eB := hrB_all (kl := kl) (kn := kn) hs0 ha hw1 q2
    have zB := HZ.hrB (kl := kl) (kn := kn) hs0 ha (if s = 3 then 12 else 24) 0 hs q2 (by omega) (by split <;> omega)
    have oB1 := HSok.hrB (w := w) (kl := kl) (kn := kn) hs0.1 (show s ≤ 3 by omega) ha.1 ha.2 (if s = 3 then 12 else 24) 0 hs q1 (by omega) (by split <;> omega) (fun c => by rw [if_pos c]; omega)
    rw [eB] at zB oB1
    have k65 : ∀ (h2 e2 t2 o2 b2 : Int) (x5 : Option Value), GO E iX3_waits (d + 1302) 0 0 65 [some (.ref p), some (vI v), some (vI j), some (vI s), some (vI a), x5] [] (hH E G p (some t) (mHrB w kl kn s a (if s = 3 then 12 else (w 1).toNat) 0 hs) (akO h2 e2 t2 o2 b2)) Q := by
      intro h2 e2 t2 o2 b2 x5
      refine g_iinc (q := 68) dX3_waits_65 rfl gs4 rfl ?_
      refine g_goto (t := 17) dX3_waits_68 (by decide) ?_
      exact ih _ _ _ _ _ _ _ _ oB1 zB (by omega) (by omega) kk
    refine g_iload (q := 19) dX3_waits_17 rfl rfl ?_
    refine g_bipush (q := 21) dX3_waits_19 rfl ?_
    refine g_icmp_ge (t := 71) (q := 24) dX3_waits_21 (by decide) rfl (by first | assumption | exact in32_gB | exact in32_gCmp | (unfold in32; omega)) (by first | assumption | exact in32_gB | exact in32_gCmp | (unfold in32; omega)) (fun c21 => ?_) (fun c21 => ?_)
    · exact absurd c21 (by omega)
    · refine g_iconst (q := 25) dX3_waits_24 rfl ?_
      refine g_istore (q := 27) dX3_waits_25 gs5 rfl ?_
      refine l_w1 (d := d) hT hw hB hkn hs0 ha hv hj (if s = 3 then 12 else 24) 0 hs _ _ _ _ _ q1 q2 (by omega) (by split <;> rfl) (fun h2 e2 t2 o2 b2 => ?_)
      rw [eB]
      by_cases c : s = 3
      · subst c
        exact l_w2 (d := d) hv hj ha (k65 _ _ _ _ _ _) 12 12 (by omega) (by omega)
      · have k66 := k65 h2 e2 t2 o2 b2
        rw [if_neg c] at k66
        rw [if_neg c, if_neg c]
        refine g_iload dX3_waits_27 rfl rfl ?_
        refine g_bipush dX3_waits_29 rfl ?_
        refine g_icmp_ge (t := 65) (q := 34) dX3_waits_31 (by decide) rfl (by unfold in32; omega) (by unfold in32; omega) (fun _ => k66 _) (fun c31 => absurd c31 (by decide))
theorem HZ.hrS {n : Nat} (hw1 : 0 ≤ w 1 ∧ w 1 ≤ 24) : ∀ (n : Nat) (s : Int) (hs : Int → Int), HZ w hs → 0 ≤ s → s + n ≤ 4 → HZ w (mHrS w kl kn n s hs) := by
  intro n
  induction n with
  | zero => intro s hs h _ _; exact h
  | succ n ih => intro s hs h h0 h2; exact ih (s + 1) _ (HZ.hrA ⟨h0, by omega⟩ hw1 _ _ _ h (by omega) (by omega)) (by omega) (by omega)
/-- the sorts, head at 9 -/
theorem l_w4 (hT : TXT E (avH p) G.1 w kl kn t) (hw : WFw w) (hB : B ≤ 1000000000) (hkn : in32 kn) (hv : in32 v) (hj : in32 j) :
    ∀ (f : Nat) (s : Int) (hs : Int → Int) (h1 e1 t1 o1 b1 : Int) (x4 x5 : Option Value), HSok B hs → HZ w hs → 0 ≤ s → s + f = 4 →
    (∀ (h2 e2 t2 o2 b2 : Int) (x4 x5 : Option Value), GO E iX3_waits (d + 1302) 0 0 77 [some (.ref p), some (vI v), some (vI j), some (vI 4), x4, x5] [] (hH E G p (some t) (mHrS w kl kn f s hs) (akO h2 e2 t2 o2 b2)) Q) →
    GO E iX3_waits (d + 1302) 0 0 9 [some (.ref p), some (vI v), some (vI j), some (vI s), x4, x5] [] (hH E G p (some t) hs (akO h1 e1 t1 o1 b1)) Q := by
  have hw1 := hw.1
  intro f
  induction f with
  | zero =>
    intro s hs h1 e1 t1 o1 b1 x4 x5 q1 q2 q3 q4 kk
    obtain rfl : s = 4 := by omega
    refine g_iload_n (q := 10) dX3_waits_9 rfl rfl ?_
    refine g_iconst (q := 11) dX3_waits_10 rfl ?_
    refine g_icmp_ge (t := 77) (q := 14) dX3_waits_11 (by decide) rfl (by first | assumption | exact in32_gB | exact in32_gCmp | (unfold in32; omega)) (by first | assumption | exact in32_gB | exact in32_gCmp | (unfold in32; omega)) (fun c11 => ?_) (fun c11 => ?_)
    · exact kk _ _ _ _ _ _ _
    · exact absurd c11 (by decide)
  | succ f ih =>
    intro s hs h1 e1 t1 o1 b1 x4 x5 q1 q2 q3 q4 kk
    have hs0 : 0 ≤ s ∧ s < 4 := by omega
    have eA := hrA_all (kl := kl) (kn := kn) hs0 hw1 q2
    have zA := HZ.hrA (kl := kl) (kn := kn) hs0 hw1 (w 1).toNat 0 hs q2 (by omega) (by omega)
    have oA := HSok.hrA (kl := kl) (kn := kn) hw hs0.1 (show s ≤ 3 by omega) (w 1).toNat 0 hs q1 (by omega) (by omega)
    refine g_iload_n (q := 10) dX3_waits_9 rfl rfl ?_
    refine g_iconst (q := 11) dX3_waits_10 rfl ?_
    refine g_icmp_ge (t := 77) (q := 14) dX3_waits_11 (by decide) rfl (by first | assumption | exact in32_gB | exact in32_gCmp | (unfold in32; omega)) (by first | assumption | exact in32_gB | exact in32_gCmp | (unfold in32; omega)) (fun c11 => ?_) (fun c11 => ?_)
    · exact absurd c11 (by omega)
    · refine g_iconst (q := 15) dX3_waits_14 rfl ?_
      refine g_istore (q := 17) dX3_waits_15 gs4 rfl ?_
      refine l_w3 (d := d) hT hw hB hkn hs0 hv hj 24 0 hs _ _ _ _ _ _ q1 q2 (by omega) (by omega) (fun h2 e2 t2 o2 b2 x5 => ?_)
      rw [eA]
      refine g_iinc (q := 74) dX3_waits_71 rfl gs3 rfl ?_
      refine g_goto (t := 9) dX3_waits_74 (by decide) ?_
      exact ih _ _ _ _ _ _ _ _ _ oA zA (by omega) (by omega) kk
theorem HZ.byhour (h : HZ w hs) : HZ w (hourly hs) := by
  intro s a b q1 q2 q3 q4
  have := lk_lt q1 q2 q3
  show upI (upI hs 2016 (hs 2016 + 1)) 2017 0 (lkA s a b) = 0
  rw [upI_ne (by omega), upI_ne (by omega)]
  exact h s a b q1 q2 q3 q4
theorem c_waitsX (hT : TXT E (avH p) G.1 w kl kn t) (hw : WFw w) (hB0 : 0 ≤ B) (hB : B ≤ 900000000) (hkn : in32 kn) (hv : -2000000000 ≤ v ∧ v ≤ 1000000) (hh : HSok B hs) (hZ : HZ w hs) :
    CALL E iX3_waits (d + 1302) 0 0 [.ref p, vI v] (hH E G p (some t) hs (akO h1 e1 t1 o1 b1)) (qVP fun k => HZ w (mHours w kl kn v.toNat hs) ∧ hHx E G p t (mHours w kl kn v.toNat hs) k) := by
  have hw1 := hw.1
  have hv32 : in32 v := by unfold in32; omega
  have loop : ∀ (n : Nat) (j B : Int) (hs : Int → Int) (h1 e1 t1 o1 b1 : Int) (x3 x4 x5 : Option Value), HSok B hs → HZ w hs → 0 ≤ j → j ≤ 1000000 → (v - j).toNat = n → 0 ≤ B → B + n ≤ 1000000000 →
      GO E iX3_waits (d + 1302) 0 0 2 [some (.ref p), some (vI v), some (vI j), x3, x4, x5] [] (hH E G p (some t) hs (akO h1 e1 t1 o1 b1)) (qVP fun k => HZ w (mHours w kl kn n hs) ∧ hHx E G p t (mHours w kl kn n hs) k) := by
    intro n
    induction n with
    | zero =>
      intro j B hs h1 e1 t1 o1 b1 x3 x4 x5 q1 q2 q3 q4 q5 q6 q7
      refine g_iload_n (q := 3) dX3_waits_2 rfl rfl ?_
      refine g_iload_n (q := 4) dX3_waits_3 rfl rfl ?_
      refine g_icmp_ge (t := 98) (q := 7) dX3_waits_4 (by decide) rfl (by first | assumption | exact in32_gB | exact in32_gCmp | (unfold in32; omega)) (by first | assumption | exact in32_gB | exact in32_gCmp | (unfold in32; omega)) (fun c4 => ?_) (fun c4 => ?_)
      · exact g_vret dX3_waits_98 rfl ⟨rfl, q2, _, _, _, _, _, rfl⟩
      · exact absurd c4 (by omega)
    | succ n ih =>
      intro j B hs h1 e1 t1 o1 b1 x3 x4 x5 q1 q2 q3 q4 q5 q6 q7
      have zS := HZ.hrS (n := 0) (kl := kl) (kn := kn) hw1 4 0 hs q2 (by omega) (by omega)
      have oH := q1.hour (kl := kl) (kn := kn) hw q6
      have zH := HZ.byhour zS
      refine g_iload_n (q := 3) dX3_waits_2 rfl rfl ?_
      refine g_iload_n (q := 4) dX3_waits_3 rfl rfl ?_
      refine g_icmp_ge (t := 98) (q := 7) dX3_waits_4 (by decide) rfl (by first | assumption | exact in32_gB | exact in32_gCmp | (unfold in32; omega)) (by first | assumption | exact in32_gB | exact in32_gCmp | (unfold in32; omega)) (fun c4 => ?_) (fun c4 => ?_)
      · exact absurd c4 (by omega)
      · refine g_iconst (q := 8) dX3_waits_7 rfl ?_
        refine g_istore_n (q := 9) dX3_waits_8 gs3 rfl ?_
        refine l_w4 (d := d) hT hw (show B ≤ 1000000000 by omega) hkn hv32 (by unfold in32; omega) 4 0 hs _ _ _ _ _ _ _ q1 q2 (by omega) (by omega) (fun h2 e2 t2 o2 b2 x4 x5 => ?_)
        refine g_aload_n (q := 78) dX3_waits_77 rfl rfl ?_
        refine g_dup (q := 79) dX3_waits_78 rfl ?_
        refine g_get (C := RX3) (T := TX3) (ci := 4) (k := 3) (q := 82) dX3_waits_79 q454 rfl in_X3 (by decide) hO rfl rfl ?_
        refine g_iconst (q := 83) dX3_waits_82 rfl ?_
        refine g_iadd (q := 84) dX3_waits_83 rfl ?_
        refine g_put (C := RX3) (T := TX3) (ci := 4) (k := 3) (q := 87) dX3_waits_84 q454 rfl in_X3 tyX3_ok nmX3 (by decide) rfl gFit_int hO (Nat.le_of_ble_eq_true rfl) rfl ?_
        refine GO.cast (h' := hH E G p (some t) (upI (mHrS w kl kn 4 0 hs) 2016 (mHrS w kl kn 4 0 hs 2016 + 1)) (akO h2 e2 t2 o2 b2)) (hUo (hs' := upI (mHrS w kl kn 4 0 hs) 2016 (mHrS w kl kn 4 0 hs 2016 + 1)) (fun k q1 q2 => upI_ne (by omega))) ?_
        refine g_aload_n (q := 88) dX3_waits_87 rfl rfl ?_
        refine g_iconst (q := 89) dX3_waits_88 rfl ?_
        refine g_put (C := RX3) (T := TX3) (ci := 4) (k := 4) (q := 92) dX3_waits_89 q456 rfl in_X3 tyX3_ok nmX3 (by decide) rfl gFit_int hO (Nat.le_of_ble_eq_true rfl) rfl ?_
        refine GO.cast (h' := hH E G p (some t) (mHour w hs kl kn) (akO h2 e2 t2 o2 b2)) (hUo (hs' := mHour w hs kl kn) (fun k q1 q2 => upI_ne (by omega))) ?_
        refine g_iinc (q := 95) dX3_waits_92 rfl gs2 rfl ?_
        refine g_goto (t := 2) dX3_waits_95 (by decide) ?_
        exact ih (j + 1) (B + 1) (mHour w hs kl kn) _ _ _ _ _ _ _ _ oH zH (by omega) (by omega) (by omega) (by omega) (by omega)
  show GO E iX3_waits _ _ _ 0 [some (.ref p), some (vI v), none, none, none, none] [] _ _
  refine g_iconst (q := 1) dX3_waits_0 rfl ?_
  refine g_istore_n (q := 2) dX3_waits_1 gs2 rfl ?_
  exact loop v.toNat 0 B hs _ _ _ _ _ _ _ _ hh hZ (by omega) (by omega) (by omega) hB0 (by omega)
end
