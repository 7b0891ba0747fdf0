/-! THE COMPONENT: slips, learns, supports -/
set_option maxRecDepth 100000
/-- worlds that differ in leans alone -/
def AG (w' w : Int → Int) : Prop := ∀ x, (x < 5 ∨ 9 ≤ x) → w' x = w x
section
variable {w' w : Int → Int} {kl kn has ea e r : Int} {hs : Int → Int}
theorem partV_ag (h : AG w' w) {k : Int} (hk : 0 ≤ k) : partV w' hs k has ea = partV w hs k has ea := by
  unfold partV
  rw [h (220 + 3 * k + 1) (by omega), h (220 + 3 * k + 2) (by omega)]
theorem tmL_ag (h : AG w' w) : ∀ (n : Nat) (k t : Int), 0 ≤ k → tmL w' hs e has ea n k t = tmL w hs e has ea n k t := by
  intro n
  induction n with
  | zero => intro k t _; rfl
  | succ n ih =>
    intro k t hk
    unfold tmL
    rw [h (220 + 3 * k) (by omega), partV_ag h hk, ih (k + 1) _ (by omega)]
theorem tmL_ge : ∀ (n : Nat) (k t k' t' : Int), tmL w hs e has ea n k t = some (k', t') → k ≤ k' := by
  intro n
  induction n with
  | zero => intro k t k' t' h; cases h; exact Int.le_refl _
  | succ n ih =>
    intro k t k' t' h
    unfold tmL at h
    by_cases c1 : k < e ∧ 3 ≤ w (220 + 3 * k)
    · rw [if_pos c1] at h
      by_cases c2 : w (220 + 3 * k) ≠ 3 ∧ partV w hs k has ea = 0
      · rw [if_pos c2] at h; cases h
      · rw [if_neg c2] at h
        generalize (if w (220 + 3 * k) = 3 then t * partV w hs k has ea else t.tdiv (partV w hs k has ea)) = X at h
        by_cases c3 : -1000000000 ≤ X ∧ X ≤ 1000000000
        · rw [if_pos c3] at h; have := ih _ _ _ _ h; omega
        · rw [if_neg c3] at h; cases h
    · rw [if_neg c1] at h; cases h; exact Int.le_refl _
theorem smL_ag (h : AG w' w) : ∀ (n : Nat) (k s : Int), 0 ≤ k → smL w' hs e has ea n k s = smL w hs e has ea n k s := by
  intro n
  induction n with
  | zero => intro k s _; rfl
  | succ n ih =>
    intro k s hk
    unfold smL
    rw [h (220 + 3 * k) (by omega), partV_ag h hk, tmL_ag h _ _ _ (by omega)]
    cases ht : tmL w hs e has ea (e - (k + 1)).toNat (k + 1) (partV w hs k has ea) with
    | none => rfl
    | some q =>
      obtain ⟨k', t⟩ := q
      have := tmL_ge _ _ _ _ _ ht
      show (if k < e then (if _ then smL w' hs e has ea n k' _ else 0) else s) = (if k < e then (if _ then smL w hs e has ea n k' _ else 0) else s)
      rw [ih k' _ (by omega)]
theorem comes_ag (h : AG w' w) (hw : WFw w) {l : Int} (hl : 0 ≤ l ∧ l < 9) : comes w' hs kl kn l has ea = comes w hs kl kn l has ea := by
  unfold comes
  have hk := hw.law hl.1 hl.2
  rw [h (202 + 2 * l) (by omega), h (202 + 2 * l + 1) (by omega), smL_ag h _ _ _ hk.1]
theorem mGrow_ag (h : AG w' w) (hw : WFw w) {s a b e : Int} (hs0 : 0 ≤ s ∧ s < 4) (he : 0 ≤ e) : mGrow w' hs kl kn s a b e = mGrow w hs kl kn s a b e := by
  unfold mGrow
  rw [h (10 + e) (by omega), comes_ag h hw (by omega)]
theorem mMix_ag (h : AG w' w) (hw : WFw w) {a b : Int} : ∀ (n : Nat) (c : Int) (hs : Int → Int), 0 ≤ c → mMixL w' kl kn a b n c hs = mMixL w kl kn a b n c hs := by
  intro n
  induction n with
  | zero => intro c hs _; rfl
  | succ n ih =>
    intro c hs hc
    unfold mMixL
    rw [h (10 + c) (by omega), comes_ag h hw (by decide), ih _ _ (by omega)]
theorem thg_ag (h : AG w' w) {i : Int} (hr : 0 ≤ r) (hi : -2 ≤ i) : thg w' r i = thg w r i := h _ (by omega)
theorem mRdI_ag (h : AG w' w) (hw : WFw w) (hr : 0 ≤ r) (hr1 : r < w 2) {i : Int} (hi : 0 ≤ i) (hi1 : i < w (34 + 14 * r)) : mRdI w' kl kn r i hs = mRdI w kl kn r i hs := by
  have t0 : 0 ≤ thg w r i := (hw.thing hr hr1 hi hi1).1
  unfold mRdI mRdG
  rw [thg_ag h hr (show -2 ≤ i by omega), thg_ag h hr (show -2 ≤ i - 1 by omega), thg_ag h hr (show -2 ≤ i - 2 by omega), h 1 (by omega)]
  by_cases z : i = 0
  · rw [if_pos z, if_pos z, if_pos z, if_pos z, mGrow_ag h hw (by decide) t0]
  · have t1 : 0 ≤ thg w r (i - 1) := (hw.thing hr hr1 (show 0 ≤ i - 1 by omega) (show i - 1 < w (34 + 14 * r) by omega)).1
    rw [if_neg z, if_neg z, if_neg z, if_neg z, mMix_ag h hw _ _ _ (by omega)]
    congr 1
    by_cases y : 1 < i
    · rw [if_pos y, if_pos y, mGrow_ag h hw (s := 2) (by decide) t0, mGrow_ag h hw (s := 1) (by decide) t1, mGrow_ag h hw (s := 0) (by decide) t0, mGrow_ag h hw (s := 3) (by decide) t0]
    · rw [if_neg y, if_neg y, mGrow_ag h hw (s := 1) (by decide) t1, mGrow_ag h hw (s := 0) (by decide) t0, mGrow_ag h hw (s := 3) (by decide) t0]
theorem mRdL_ag (h : AG w' w) (hw : WFw w) (hr : 0 ≤ r) (hr1 : r < w 2) : ∀ (n : Nat) (i : Int) (hs : Int → Int), 0 ≤ i → i + n ≤ w (34 + 14 * r) → mRdL w' kl kn r n i hs = mRdL w kl kn r n i hs := by
  intro n
  induction n with
  | zero => intro i hs _ _; rfl
  | succ n ih =>
    intro i hs h0 h1
    unfold mRdL
    rw [mRdI_ag h hw hr hr1 h0 (by omega), ih _ _ (by omega) (by omega)]
theorem mReads_ag (h : AG w' w) (hw : WFw w) (hr : 0 ≤ r) (hr1 : r < w 2) : mReads w' hs kl kn r = mReads w hs kl kn r := by
  have := hw.row hr hr1
  unfold mReads
  rw [h (34 + 14 * r) (by omega), mRdL_ag h hw hr hr1 _ _ _ (by omega) (by omega)]
end
section
variable {E : gE} {d p t ra : Nat} {G : gH} {hs w g : Int → Int} {kl kn v s a b c wo B h1 e1 t1 o1 b1 r i : Int} {Q : Outcome → gH → Prop}
theorem c_slipsX (hT : TXT E (avH p) G.1 w kl kn t) (hw : WFw w) (hh : HSok B hs) (hr : 0 ≤ r) (hr1 : r < w 2) (hR : ROWc E (avH p) G.1 w r ra) (hwo : -1 ≤ wo ∧ wo ≤ 3) :
    CALL E iX3_slips (d + 1) 0 0 [.ref p, .ref ra, vI wo] (hH E G p (some t) hs (akO h1 e1 t1 o1 b1)) (qR (vI (mSlips (woW w wo) hs r)) (hH E G p (some t) hs (akO h1 e1 t1 o1 b1))) := by
  have hrw := hw.row hr hr1
  have hW := hw.wo hwo
  have h4 := hw.2.2.2.1
  have e2 : woW w wo 2 = w 2 := woW_e hwo (by omega)
  have e4 : woW w wo 4 = w 4 := woW_e hwo (by omega)
  have en2 : woW w wo (34 + 14 * r) = w (34 + 14 * r) := woW_e hwo (by omega)
  have en : (((w (34 + 14 * r)).toNat : Nat) : Int) = w (34 + 14 * r) := Int.toNat_of_nonneg (by omega)
  have hT' := hT
  have hR' := hR
  obtain ⟨te, tl, tw, tz, tw2, lw, ge, gl, hd, ⟨n1, n2, n3, n4, n5⟩, ct, cte, ctl, ctw, ctw2, hl, hij⟩ := hT
  have ot : ∀ b : Nat, ¬ avH p b → (hH E G p (some t) hs (akO h1 e1 t1 o1 b1)).1 b = G.1 b := fun b hb => blk_out (by unfold avH at hb; omega)
  obtain ⟨hra, g, hrc, hg⟩ := hR
  have orr := (ot ra hra).trans hrc
  have loop : ∀ (n : Nat) (i : Int) (z : Int32), 0 ≤ i → i + n = w (34 + 14 * r) → GO E iX3_slips (d + 1) 0 0 5 [some (.ref p), some (.ref ra), some (vI wo), some (.int z), some (vI i)] [] (hH E G p (some t) hs (akO h1 e1 t1 o1 b1)) (qR (vI (slL (woW w wo) hs r n i z).toInt) (hH E G p (some t) hs (akO h1 e1 t1 o1 b1))) := by
    intro n
    induction n with
    | zero =>
      intro i z h0 h9
      refine g_iload (q := 7) dX3_slips_5 rfl rfl ?_
      refine g_aload_n (q := 8) dX3_slips_7 rfl rfl ?_
      refine g_alen 0 (q := 9) dX3_slips_8 orr rfl rfl rfl ?_
      rw [en]
      refine g_icmp_ge (t := 47) (q := 12) dX3_slips_9 (by decide) rfl (by first | assumption | exact in32_gB | exact in32_gCmp | (unfold in32; omega)) (by first | assumption | exact in32_gB | exact in32_gCmp | (unfold in32; omega)) (fun c9 => ?_) (fun c9 => ?_)
      · refine g_iload_n (q := 48) dX3_slips_47 rfl rfl ?_
        exact g_iretR dX3_slips_48 rfl ⟨by rw [← vI_of]; rfl, rfl⟩
      · exact absurd c9 (by omega)
    | succ n ih =>
      intro i z h0 h9
      have hsu := mSup_in hW hh hr (by rw [e2]; exact hr1) h0 (show i < woW w wo (34 + 14 * r) by rw [en2]; omega)
      have step : ∀ y : Int32, y = (if mSup (woW w wo) hs r i < woW w wo 4 then Int32.ofInt 1 <<< (Int32.ofInt i &&& 31) else Int32.ofInt 0) → GO E iX3_slips (d + 1) 0 0 39 [some (.ref p), some (.ref ra), some (vI wo), some (.int z), some (vI i)] [.int y, .int z] (hH E G p (some t) hs (akO h1 e1 t1 o1 b1)) (qR (vI (slL (woW w wo) hs r (n + 1) i z).toInt) (hH E G p (some t) hs (akO h1 e1 t1 o1 b1))) := by
        intro y hy
        subst hy
        refine g_ior (q := 40) dX3_slips_39 rfl ?_
        refine g_istore_n (q := 41) dX3_slips_40 gs3 rfl ?_
        refine g_iinc (q := 44) dX3_slips_41 rfl gs4 rfl ?_
        refine g_goto (t := 5) dX3_slips_44 (by decide) ?_
        exact ih _ _ (by omega) (by omega)
      refine g_iload (q := 7) dX3_slips_5 rfl rfl ?_
      refine g_aload_n (q := 8) dX3_slips_7 rfl rfl ?_
      refine g_alen 0 (q := 9) dX3_slips_8 orr rfl rfl rfl ?_
      rw [en]
      refine g_icmp_ge (t := 47) (q := 12) dX3_slips_9 (by decide) rfl (by first | assumption | exact in32_gB | exact in32_gCmp | (unfold in32; omega)) (by first | assumption | exact in32_gB | exact in32_gCmp | (unfold in32; omega)) (fun c9 => ?_) (fun c9 => ?_)
      · exact absurd c9 (by omega)
      · refine g_iload_n (q := 13) dX3_slips_12 rfl rfl ?_
        refine g_aload_n (q := 14) dX3_slips_13 rfl rfl ?_
        refine g_aload_n (q := 15) dX3_slips_14 rfl rfl ?_
        refine g_iload (q := 17) dX3_slips_15 rfl rfl ?_
        refine g_iload_n (q := 18) dX3_slips_17 rfl rfl ?_
        refine g_cv (I' := iX3_support) (mc := 0) (ms := 0) (rc := 0) (rs := 0) (ci := 4) (q := 21) dX3_slips_18 q1003 q1004 rfl q1005 gcX3_support hO (c_supportX hT' hw hh hr hr1 hR' h0 (by omega) hwo) rfl rfl ?_
        refine g_aload_n (q := 22) dX3_slips_21 rfl rfl ?_
        refine g_get (C := RX3) (T := TX3) (ci := 4) (k := 2) (q := 25) dX3_slips_22 q453 rfl in_X3 (by decide) hO rfl rfl ?_
        refine g_getN (C := RX2) (T := TX2) (ci := 2) (k := 5) (q := 28) dX3_slips_25 q361 rfl in_X2 (by decide) ((ot _ n1).trans ct) rfl rfl ?_
        refine g_icmp_ge (t := 38) (q := 31) dX3_slips_28 (by decide) rfl (by first | assumption | exact in32_gB | exact in32_gCmp | (unfold in32; omega)) (by first | assumption | exact in32_gB | exact in32_gCmp | (unfold in32; omega)) (fun c28 => ?_) (fun c28 => ?_)
        · refine g_iconst (q := 39) dX3_slips_38 rfl ?_
          exact step _ (by rw [e4]; first | exact (if_pos c28).symm | exact (if_neg (show ¬ mSup (woW w wo) hs r i < w 4 by omega)).symm)
        · refine g_iconst (q := 32) dX3_slips_31 rfl ?_
          refine g_iload (q := 34) dX3_slips_32 rfl rfl ?_
          refine g_ishl (q := 35) dX3_slips_34 rfl ?_
          refine g_goto (t := 39) dX3_slips_35 (by decide) ?_
          exact step _ (by rw [e4]; first | exact (if_pos c28).symm | exact (if_neg (show ¬ mSup (woW w wo) hs r i < w 4 by omega)).symm)
  show GO E iX3_slips _ _ _ 0 [some (.ref p), some (.ref ra), some (vI wo), none, none] [] _ _
  refine g_iconst (q := 1) dX3_slips_0 rfl ?_
  refine g_istore_n (q := 2) dX3_slips_1 gs3 rfl ?_
  refine g_iconst (q := 3) dX3_slips_2 rfl ?_
  refine g_istore (q := 5) dX3_slips_3 gs4 rfl ?_
  have z := loop (w (34 + 14 * r)).toNat 0 (Int32.ofInt 0) (by omega) (by omega)
  unfold mSlips
  rw [en2]
  exact z
theorem c_learnsX (hT : TXT E (avH p) G.1 w kl kn t) (hw : WFw w) (hh : HSok B hs) (hZ : HZ w hs) (hB : B ≤ 900000000) (hkn : in32 kn) (hr : 0 ≤ r) (hr1 : r < w 2) (hR : ROWc E (avH p) G.1 w r ra) (hwo : -1 ≤ wo ∧ wo ≤ 3) :
    CALL E iX3_learns (d + 1303) 0 0 [.ref p, .ref ra, vI wo] (hH E G p (some t) hs (akO h1 e1 t1 o1 b1)) (qP fun v k => v = vI (mLearns (woW w wo) hs kl kn r).1 ∧ HZ w (mLearns (woW w wo) hs kl kn r).2 ∧ hHx E G p t (mLearns (woW w wo) hs kl kn r).2 k) := by
  have hag : AG (woW w wo) w := fun x hx => woW_e hwo hx
  have loop : ∀ (f : Nat) (n g B : Int) (hs : Int → Int) (h1 e1 t1 o1 b1 : Int), HSok B hs → HZ w hs → B + f ≤ 1000000000 → 1 ≤ n → n + f = 41 → (g = 0 ∨ g = 1) → GO E iX3_learns (d + 1303) 0 0 5 [some (.ref p), some (.ref ra), some (vI wo), some (vI g), some (vI n)] [] (hH E G p (some t) hs (akO h1 e1 t1 o1 b1)) (qP fun v k => v = vI (mLrnL (woW w wo) kl kn r f n g hs).1 ∧ HZ w (mLrnL (woW w wo) kl kn r f n g hs).2 ∧ hHx E G p t (mLrnL (woW w wo) kl kn r f n g hs).2 k) := by
    intro f
    induction f with
    | zero =>
      intro n g B hs h1 e1 t1 o1 b1 q1 q2 q3 q4 q5 q6
      refine g_iload (q := 7) dX3_learns_5 rfl rfl ?_
      refine g_bipush (q := 9) dX3_learns_7 rfl ?_
      refine g_icmp_gt (t := 48) (q := 12) dX3_learns_9 (by decide) rfl (by first | assumption | exact in32_gB | exact in32_gCmp | (unfold in32; omega)) (by first | assumption | exact in32_gB | exact in32_gCmp | (unfold in32; omega)) (fun c9 => ?_) (fun c9 => ?_)
      · refine g_iconst (q := 49) dX3_learns_48 rfl ?_
        exact g_iret dX3_learns_49 rfl ⟨_, rfl, rfl, q2, _, _, _, _, _, rfl⟩
      · exact absurd c9 (by omega)
    | succ f ih =>
      intro n g B hs h1 e1 t1 o1 b1 q1 q2 q3 q4 q5 q6
      have g1 := q1.reads (kl := kl) (kn := kn) hw hr hr1
      have step : ∀ (u : Int) (h2 e2 t2 o2 b2 : Int), HZ w (mReads w hs kl kn r) → u = (if mSlips (woW w wo) (mReads w hs kl kn r) r = 0 then g + 1 else 0) → GO E iX3_learns (d + 1303) 0 0 33 [some (.ref p), some (.ref ra), some (vI wo), some (vI g), some (vI n)] [vI u] (hH E G p (some t) (mReads w hs kl kn r) (akO h2 e2 t2 o2 b2)) (qP fun v k => v = vI (mLrnL (woW w wo) kl kn r (f + 1) n g hs).1 ∧ HZ w (mLrnL (woW w wo) kl kn r (f + 1) n g hs).2 ∧ hHx E G p t (mLrnL (woW w wo) kl kn r (f + 1) n g hs).2 k) := by
        intro u h2 e2 t2 o2 b2 z2 hu
        have hu2 : u = 0 ∨ u = 1 ∨ u = 2 := by split at hu <;> omega
        have eq1 : mLrnL (woW w wo) kl kn r (f + 1) n g hs = if u = 2 then (n, mReads w hs kl kn r) else mLrnL (woW w wo) kl kn r f (n + 1) u (mReads w hs kl kn r) := by
          have e9 : mLrnL (woW w wo) kl kn r (f + 1) n g hs = if (if mSlips (woW w wo) (mReads (woW w wo) hs kl kn r) r = 0 then g + 1 else 0) = 2 then (n, mReads (woW w wo) hs kl kn r) else mLrnL (woW w wo) kl kn r f (n + 1) (if mSlips (woW w wo) (mReads (woW w wo) hs kl kn r) r = 0 then g + 1 else 0) (mReads (woW w wo) hs kl kn r) := rfl
          rw [e9, hu, mReads_ag hag hw hr hr1]
        rw [eq1]
        by_cases z : u = 2
        · rw [if_pos z]
          refine g_istore_n (q := 34) dX3_learns_33 gs3 rfl ?_
          refine g_iload_n (q := 35) dX3_learns_34 rfl rfl ?_
          refine g_iconst (q := 36) dX3_learns_35 rfl ?_
          refine g_icmp_ne (t := 42) (q := 39) dX3_learns_36 (by decide) rfl (by first | assumption | exact in32_gB | exact in32_gCmp | (unfold in32; omega)) (by first | assumption | exact in32_gB | exact in32_gCmp | (unfold in32; omega)) (fun c36 => ?_) (fun c36 => ?_)
          · exact absurd z c36
          · refine g_iload (q := 41) dX3_learns_39 rfl rfl ?_
            exact g_iret dX3_learns_41 rfl ⟨_, rfl, rfl, z2, _, _, _, _, _, rfl⟩
        · rw [if_neg z]
          refine g_istore_n (q := 34) dX3_learns_33 gs3 rfl ?_
          refine g_iload_n (q := 35) dX3_learns_34 rfl rfl ?_
          refine g_iconst (q := 36) dX3_learns_35 rfl ?_
          refine g_icmp_ne (t := 42) (q := 39) dX3_learns_36 (by decide) rfl (by first | assumption | exact in32_gB | exact in32_gCmp | (unfold in32; omega)) (by first | assumption | exact in32_gB | exact in32_gCmp | (unfold in32; omega)) (fun c36 => ?_) (fun c36 => ?_)
          · refine g_iinc (q := 45) dX3_learns_42 rfl gs4 rfl ?_
            refine g_goto (t := 5) dX3_learns_45 (by decide) ?_
            exact ih _ _ (B + 1) _ _ _ _ _ _ g1 z2 (by omega) (by omega) (by omega) (by omega)
          · exact absurd c36 z
      refine g_iload (q := 7) dX3_learns_5 rfl rfl ?_
      refine g_bipush (q := 9) dX3_learns_7 rfl ?_
      refine g_icmp_gt (t := 48) (q := 12) dX3_learns_9 (by decide) rfl (by first | assumption | exact in32_gB | exact in32_gCmp | (unfold in32; omega)) (by first | assumption | exact in32_gB | exact in32_gCmp | (unfold in32; omega)) (fun c9 => ?_) (fun c9 => ?_)
      · exact absurd c9 (by omega)
      · refine g_aload_n (q := 13) dX3_learns_12 rfl rfl ?_
        refine g_aload_n (q := 14) dX3_learns_13 rfl rfl ?_
        refine g_cvVP (I' := iX3_reads) (mc := 0) (ms := 0) (rc := 0) (rs := 0) (ci := 4) (q := 17) dX3_learns_14 q1140 q1014 rfl q1015 gcX3_reads hO (c_readsX (d := d) hT hw q1 q2 (by omega) hkn hr hr1 hR) rfl rfl (fun k14 z14 => ?_)
        obtain ⟨z2, h2, e2, t2, o2, b2, rfl⟩ := z14
        refine g_aload_n (q := 18) dX3_learns_17 rfl rfl ?_
        refine g_aload_n (q := 19) dX3_learns_18 rfl rfl ?_
        refine g_iload_n (q := 20) dX3_learns_19 rfl rfl ?_
        refine g_cv (I' := iX3_slips) (mc := 0) (ms := 0) (rc := 0) (rs := 0) (ci := 4) (q := 23) dX3_learns_20 q1141 q1000 rfl q1001 gcX3_slips hO (c_slipsX (d := d + 1301) hT hw g1 hr hr1 hR hwo) rfl rfl ?_
        refine g_if_ne (t := 32) (q := 26) dX3_learns_23 (by decide) rfl mSlips_32 (fun c23 => ?_) (fun c23 => ?_)
        · refine g_iconst (q := 33) dX3_learns_32 rfl ?_
          exact step _ _ _ _ _ _ z2 (by first | rw [if_pos c23] | rw [if_neg c23])
        · refine g_iload_n (q := 27) dX3_learns_26 rfl rfl ?_
          refine g_iconst (q := 28) dX3_learns_27 rfl ?_
          refine g_iadd (q := 29) dX3_learns_28 rfl ?_
          refine g_goto (t := 33) dX3_learns_29 (by decide) ?_
          exact step _ _ _ _ _ _ z2 (by first | rw [if_pos c23] | rw [if_neg c23])
  show GO E iX3_learns _ _ _ 0 [some (.ref p), some (.ref ra), some (vI wo), none, none] [] _ _
  refine g_iconst (q := 1) dX3_learns_0 rfl ?_
  refine g_istore_n (q := 2) dX3_learns_1 gs3 rfl ?_
  refine g_iconst (q := 3) dX3_learns_2 rfl ?_
  refine g_istore (q := 5) dX3_learns_3 gs4 rfl ?_
  exact loop 40 1 0 B hs _ _ _ _ _ hh hZ (by omega) (by omega) (by omega) (by omega)
theorem c_supportsX (hT : TXT E (avH p) G.1 w kl kn t) (hw : WFw w) (hh : HSok B hs) (hr : 0 ≤ r) (hr1 : r < w 2) (hR : ROWc E (avH p) G.1 w r ra) :
    CALL E iX3_supports (d + 1) 0 0 [.ref p, .ref ra] (hH E G p (some t) hs (akO h1 e1 t1 o1 b1)) (qR (vI (mLeft w hs r)) (hH E G p (some t) hs (akO h1 e1 t1 o1 b1))) := by
  have hrw := hw.row hr hr1
  have en : (((w (34 + 14 * r)).toNat : Nat) : Int) = w (34 + 14 * r) := Int.toNat_of_nonneg (by omega)
  have hR' := hR
  obtain ⟨hra, g, hrc, hg⟩ := hR
  have orr : (hH E G p (some t) hs (akO h1 e1 t1 o1 b1)).1 ra = some (aI E (w (34 + 14 * r)).toNat g) := (blk_out (by unfold avH at hra; omega)).trans hrc
  have eW : woW w (-1) = w := by unfold woW; rw [if_neg (by decide)]
  have loop : ∀ (n : Nat) (i z : Int), 0 ≤ i → i + n = w (34 + 14 * r) → GO E iX3_supports (d + 1) 0 0 4 [some (.ref p), some (.ref ra), some (vI z), some (vI i)] [] (hH E G p (some t) hs (akO h1 e1 t1 o1 b1)) (qR (vI (lftL w hs r n i z)) (hH E G p (some t) hs (akO h1 e1 t1 o1 b1))) := by
    intro n
    induction n with
    | zero =>
      intro i z h0 h9
      refine g_iload_n (q := 5) dX3_supports_4 rfl rfl ?_
      refine g_aload_n (q := 6) dX3_supports_5 rfl rfl ?_
      refine g_alen 0 (q := 7) dX3_supports_6 orr rfl rfl rfl ?_
      rw [en]
      refine g_icmp_ge (t := 26) (q := 10) dX3_supports_7 (by decide) rfl (by first | assumption | exact in32_gB | exact in32_gCmp | (unfold in32; omega)) (by first | assumption | exact in32_gB | exact in32_gCmp | (unfold in32; omega)) (fun c7 => ?_) (fun c7 => ?_)
      · refine g_iload_n (q := 27) dX3_supports_26 rfl rfl ?_
        exact g_iret dX3_supports_27 rfl ⟨rfl, rfl⟩
      · exact absurd c7 (by omega)
    | succ n ih =>
      intro i z h0 h9
      have hc := c_supportX (d := d) (h1 := h1) (e1 := e1) (t1 := t1) (o1 := o1) (b1 := b1) (wo := -1) hT hw hh hr hr1 hR' h0 (show i < w (34 + 14 * r) by omega) (by omega)
      rw [eW] at hc
      refine g_iload_n (q := 5) dX3_supports_4 rfl rfl ?_
      refine g_aload_n (q := 6) dX3_supports_5 rfl rfl ?_
      refine g_alen 0 (q := 7) dX3_supports_6 orr rfl rfl rfl ?_
      rw [en]
      refine g_icmp_ge (t := 26) (q := 10) dX3_supports_7 (by decide) rfl (by first | assumption | exact in32_gB | exact in32_gCmp | (unfold in32; omega)) (by first | assumption | exact in32_gB | exact in32_gCmp | (unfold in32; omega)) (fun c7 => ?_) (fun c7 => ?_)
      · exact absurd c7 (by omega)
      · refine g_iload_n (q := 11) dX3_supports_10 rfl rfl ?_
        refine g_aload_n (q := 12) dX3_supports_11 rfl rfl ?_
        refine g_aload_n (q := 13) dX3_supports_12 rfl rfl ?_
        refine g_iload_n (q := 14) dX3_supports_13 rfl rfl ?_
        refine g_iconst (q := 15) dX3_supports_14 rfl ?_
        refine g_cv (I' := iX3_support) (mc := 0) (ms := 0) (rc := 0) (rs := 0) (ci := 4) (q := 18) dX3_supports_15 q1003 q1004 rfl q1005 gcX3_support hO (hc) rfl rfl ?_
        refine g_iadd (q := 19) dX3_supports_18 rfl ?_
        refine g_istore_n (q := 20) dX3_supports_19 gs2 rfl ?_
        refine g_iinc (q := 23) dX3_supports_20 rfl gs3 rfl ?_
        refine g_goto (t := 4) dX3_supports_23 (by decide) ?_
        exact ih _ _ (by omega) (by omega)
  show GO E iX3_supports _ _ _ 0 [some (.ref p), some (.ref ra), none, none] [] _ _
  refine g_iconst (q := 1) dX3_supports_0 rfl ?_
  refine g_istore_n (q := 2) dX3_supports_1 gs2 rfl ?_
  refine g_iconst (q := 3) dX3_supports_2 rfl ?_
  refine g_istore_n (q := 4) dX3_supports_3 gs3 rfl ?_
  exact loop (w (34 + 14 * r)).toNat 0 0 (by omega) (by omega)
end
