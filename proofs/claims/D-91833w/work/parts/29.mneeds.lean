/-! THE REFERENCE: on paper -/
set_option maxRecDepth 100000
theorem GO.topR {E : gE} {I : gI} {d rc rs pc : Nat} {lv : List (Option Value)} {st : List Value} {h : gH} {Q : Outcome → gH → Prop} {x : Int32} (kk : GO E I d rc rs pc lv (vI x.toInt :: st) h Q) : GO E I d rc rs pc lv (.int x :: st) h Q := by
  rw [vI_of]; exact kk
theorem GO.monox {E : gE} {I : gI} {d rc rs pc : Nat} {lv : List (Option Value)} {st : List Value} {h : gH} {Q Q' : Outcome → gH → Prop} (h1 : GO E I d rc rs pc lv st h Q) (h2 : ∀ o k, Q o k → ∃ k', Q' o k' ∧ ∀ H, gRel E k H → gRel E k' H) : GO E I d rc rs pc lv st h Q' := by
  intro p l e R s m args below meth c H locs k n ls hc a1 a2 a3 a4 hR hL hl T hT X
  obtain ⟨t, b1, o, h', L, k', n', hq, hr, z⟩ := h1 p l e R s m args below meth c H locs k n ls hc a1 a2 a3 a4 hR hL hl T hT X
  obtain ⟨k2, hq2, hx⟩ := h2 _ _ hq
  exact ⟨t, b1, o, k2, L, k', n', hq2, hx _ hr, z⟩
theorem and1 (x : Int32) : (x &&& Int32.ofInt 1).toInt = 0 ∨ (x &&& Int32.ofInt 1).toInt = 1 := by
  obtain ⟨j, hj, e⟩ := pk_andE x (m := Int32.ofInt 1) 1 (by decide)
  rw [e]
  have : j = 0 ∨ j = 1 := by omega
  rcases this with rfl | rfl
  · left; decide
  · right; decide
/-- the ones among the bits from k on -/
def onesL (z : Int32) : Nat → Int → Int → Int
  | 0, _, n => n
  | f + 1, k, n => onesL z f (k + 1) (n + ((z >>> (Int32.ofInt k &&& 31)) &&& Int32.ofInt 1).toInt)
def mOnes (b : Int) : Int := onesL (Int32.ofInt b) 12 0 0
/-- links and tiredness gone -/
def zrI (hs : Int → Int) (n : Int) : Int → Int := fun j => if 0 ≤ j ∧ j < n then 0 else hs j
theorem zrI_0 {hs : Int → Int} : zrI hs 0 = hs := funext fun j => if_neg (by omega)
theorem zrI_s {hs : Int → Int} {n : Int} (h : 0 ≤ n) : upI (zrI hs n) n 0 = zrI hs (n + 1) := by
  funext j
  by_cases e : j = n
  · subst e; rw [upI_at]; unfold zrI; rw [if_pos (by omega)]
  · rw [upI_ne e]; unfold zrI
    by_cases z : 0 ≤ j ∧ j < n
    · rw [if_pos z, if_pos (by omega)]
    · rw [if_neg z, if_neg (by omega)]
def mZero (hs : Int → Int) : Int → Int := upI (zrI hs 2016) 2017 0
theorem HSok.zero {B : Int} {hs : Int → Int} (h : HSok B hs) (hB : 0 ≤ B) : HSok B (mZero hs) := by
  have h1 := h.2.1
  unfold mZero
  refine ⟨fun k a b => ?_, ?_, ?_⟩
  · rw [upI_ne (by omega)]; unfold zrI; rw [if_pos (by omega)]; omega
  · rw [upI_ne (by omega)]; unfold zrI; rw [if_neg (by omega)]; exact h1
  · rw [upI_at]; omega
def orM (n : Int) : Int := if n = -1 then 41 else n
section
variable {E : gE} {d rc rs am : Nat} {G : gH}
variable {th si lo td sz pa fr tk vl fk fp hdt kl kn cd bp bl : Int} {w hs bk iW iH iB iL iS tp fv fsh lt cp md sw nd mn my wd nm mv : Int → Int}
variable {s a b r i k v e B c : Int} {Q : Outcome → gH → Prop}
theorem c_ones {h : gH} : CALL E iX6_ones d 0 0 [vI b] h (qR (vI (mOnes b)) h) := by
  have loop : ∀ (f : Nat) (k n : Int), 0 ≤ k → k + f = 12 → 0 ≤ n → n ≤ k → GO E iX6_ones d 0 0 4 [some (vI b), some (vI n), some (vI k)] [] h (qR (vI (onesL (Int32.ofInt b) f k n)) h) := by
    intro f
    induction f with
    | zero =>
      intro k n h0 h1 h2 h3
      refine g_iload_n (q := 5) dX6_ones_4 rfl rfl ?_
      refine g_bipush (q := 7) dX6_ones_5 rfl ?_
      refine g_icmp_ge (t := 24) (q := 10) dX6_ones_7 (by decide) rfl (by first | assumption | exact in32_gB | exact in32_gCmp | (unfold in32; omega)) (by first | assumption | exact in32_gB | exact in32_gCmp | (unfold in32; omega)) (fun c7 => ?_) (fun c7 => ?_)
      · refine g_iload_n (q := 25) dX6_ones_24 rfl rfl ?_
        exact g_iret dX6_ones_25 rfl ⟨rfl, rfl⟩
      · exact absurd c7 (by omega)
    | succ f ih =>
      intro k n h0 h1 h2 h3
      have ha := and1 (Int32.ofInt b >>> (Int32.ofInt k &&& 31))
      refine g_iload_n (q := 5) dX6_ones_4 rfl rfl ?_
      refine g_bipush (q := 7) dX6_ones_5 rfl ?_
      refine g_icmp_ge (t := 24) (q := 10) dX6_ones_7 (by decide) rfl (by first | assumption | exact in32_gB | exact in32_gCmp | (unfold in32; omega)) (by first | assumption | exact in32_gB | exact in32_gCmp | (unfold in32; omega)) (fun c7 => ?_) (fun c7 => ?_)
      · exact absurd c7 (by omega)
      · refine g_iload_n (q := 11) dX6_ones_10 rfl rfl ?_
        refine g_iload_n (q := 12) dX6_ones_11 rfl rfl ?_
        refine g_iload_n (q := 13) dX6_ones_12 rfl rfl ?_
        refine g_ishr (q := 14) dX6_ones_13 rfl ?_
        refine g_iconst (q := 15) dX6_ones_14 rfl ?_
        refine g_iand (q := 16) dX6_ones_15 rfl ?_
        refine GO.topR ?_
        refine g_iadd (q := 17) dX6_ones_16 rfl ?_
        refine g_istore_n (q := 18) dX6_ones_17 gs1 rfl ?_
        refine g_iinc (q := 21) dX6_ones_18 rfl gs2 rfl ?_
        refine g_goto (t := 4) dX6_ones_21 (by decide) ?_
        exact ih _ _ (by omega) (by omega) (by omega) (by omega)
  show GO E iX6_ones _ _ _ 0 [some (vI b), none, none] [] _ _
  refine g_iconst (q := 1) dX6_ones_0 rfl ?_
  refine g_istore_n (q := 2) dX6_ones_1 gs1 rfl ?_
  refine g_iconst (q := 3) dX6_ones_2 rfl ?_
  refine g_istore_n (q := 4) dX6_ones_3 gs2 rfl ?_
  exact loop 12 0 0 (by omega) (by omega) (by omega) (by omega)
/-- a copy taken back -/
theorem c_back {hs0 : Int → Int} (h0 : 0 ≤ c) (h1 : c < 8) (hl : ∀ j : Int, 0 ≤ j → j < 2018 → cp (2018 * c + j) = hs0 j) : CALL E iX6_takeBack d 0 0 [.ref am] (mH E G am th w hs si lo bk iW iH iB iL iS tp td fv sz pa fr tk vl fk fp fsh hdt lt kl kn cp (c + 1) bp bl md sw nd mn my wd nm mv) (qV (mH E G am th w hs0 si lo bk iW iH iB iL iS tp td fv sz pa fr tk vl fk fp fsh hdt lt kl kn cp c bp bl md sw nd mn my wd nm mv)) := by
  refine GO.monox (c_takeBack (d := d) (cd := c + 1) (by omega) (by omega)) fun o k hq => ⟨_, ⟨hq.1, rfl⟩, fun H hR => ?_⟩
  rw [hq.2] at hR
  have e1 : c + 1 - 1 = c := by omega
  rw [e1] at hR
  refine mX2 (fun j h2 h3 => ?_) H hR
  rw [cpyI_in h2 (by omega), Int.sub_zero]
  exact hl j h2 h3
theorem c_needsOf (hw : WFw w) (hh : HSok B hs) (hB : B ≤ 900000000) (hkl : in32 kl) (hkn : in32 kn) (hr : 0 ≤ r) (hr1 : r < w 2) (h0 : 0 ≤ cd) (h1 : cd < 8) : CALL E iX6_needsOf (d + 5) 0 0 [.ref am, vI r] (mH E G am th w hs si lo bk iW iH iB iL iS tp td fv sz pa fr tk vl fk fp fsh hdt lt kl kn cp cd bp bl md sw nd mn my wd nm mv) (qR (vI (mLearns w hs kl kn r).1) (mH E G am th w hs si lo bk iW iH iB iL iS tp td fv sz pa fr tk vl fk fp fsh hdt lt kl kn (cpyI cp hs (2018 * cd) 0 2018) cd bp bl md sw nd mn my wd nm mv)) := by
  show GO E iX6_needsOf _ _ _ 0 [some (.ref am), some (vI r), none] [] _ _
  refine g_aload_n (q := 1) dX6_needsOf_0 rfl rfl ?_
  refine g_cvV (I' := iX6_copy) (mc := 0) (ms := 0) (rc := 0) (rs := 0) (ci := 7) (q := 4) dX6_needsOf_1 q1746 q1748 rfl qs74 gcX6_copy mO (c_copy h0 h1) rfl rfl ?_
  refine g_aload_n (q := 5) dX6_needsOf_4 rfl rfl ?_
  refine g_iload_n (q := 6) dX6_needsOf_5 rfl rfl ?_
  refine g_cv (I' := iX6_learns) (mc := 0) (ms := 0) (rc := 0) (rs := 0) (ci := 7) (q := 9) dX6_needsOf_6 q1700 q1702 rfl qs69 gcX6_learns mO (c_learns (d := d) hw hh hB hkl hkn hr hr1) rfl rfl ?_
  refine g_istore_n (q := 10) dX6_needsOf_9 gs2 rfl ?_
  refine g_aload_n (q := 11) dX6_needsOf_10 rfl rfl ?_
  refine g_cvV (I' := iX6_takeBack) (mc := 0) (ms := 0) (rc := 0) (rs := 0) (ci := 7) (q := 14) dX6_needsOf_11 q1750 q1752 rfl qs75 gcX6_takeBack mO (c_back (hs0 := hs) h0 h1 (fun j h2 h3 => by rw [cpyI_in (by omega) (by omega)]; congr 1; omega)) rfl rfl ?_
  refine g_iload_n (q := 15) dX6_needsOf_14 rfl rfl ?_
  exact g_iret dX6_needsOf_15 rfl ⟨rfl, rfl⟩
theorem c_freshOf (hw : WFw w) (hh : HSok B hs) (hB0 : 0 ≤ B) (hB : B ≤ 900000000) (hkl : in32 kl) (hkn : in32 kn) (hr : 0 ≤ r) (hr1 : r < w 2) (h0 : 0 ≤ cd) (h1 : cd < 8) : CALL E iX6_freshOf (d + 5) 0 0 [.ref am, vI r] (mH E G am th w hs si lo bk iW iH iB iL iS tp td fv sz pa fr tk vl fk fp fsh hdt lt kl kn cp cd bp bl md sw nd mn my wd nm mv) (qR (vI (mLearns w (mZero hs) kl kn r).1) (mH E G am th w hs si lo bk iW iH iB iL iS tp td fv sz pa fr tk vl fk fp fsh hdt lt kl kn (cpyI cp hs (2018 * cd) 0 2018) cd bp bl md sw nd mn my wd nm mv)) := by
  have hz := hh.zero hB0
  have loop : ∀ (n : Nat) (i : Int), 0 ≤ i → i + n = 2016 → GO E iX6_freshOf (d + 5) 0 0 6 [some (.ref am), some (vI r), some (vI i)] [] (mH E G am th w (zrI hs i) si lo bk iW iH iB iL iS tp td fv sz pa fr tk vl fk fp fsh hdt lt kl kn (cpyI cp hs (2018 * cd) 0 2018) (cd + 1) bp bl md sw nd mn my wd nm mv) (qR (vI (mLearns w (mZero hs) kl kn r).1) (mH E G am th w hs si lo bk iW iH iB iL iS tp td fv sz pa fr tk vl fk fp fsh hdt lt kl kn (cpyI cp hs (2018 * cd) 0 2018) cd bp bl md sw nd mn my wd nm mv)) := by
    intro n
    induction n with
    | zero =>
      intro i h2 h3
      obtain rfl : i = 2016 := by omega
      refine g_iload_n (q := 7) dX6_freshOf_6 rfl rfl ?_
      refine g_sipush (q := 10) dX6_freshOf_7 rfl ?_
      refine g_icmp_ge (t := 26) (q := 13) dX6_freshOf_10 (by decide) rfl (by first | assumption | exact in32_gB | exact in32_gCmp | (unfold in32; omega)) (by first | assumption | exact in32_gB | exact in32_gCmp | (unfold in32; omega)) (fun c10 => ?_) (fun c10 => ?_)
      · refine g_aload_n (q := 27) dX6_freshOf_26 rfl rfl ?_
        refine gm_get (k := 2) (q := 30) dX6_freshOf_27 q1396 (by decide) rfl rfl ?_
        refine g_sipush (q := 33) dX6_freshOf_30 rfl ?_
        refine g_iconst (q := 34) dX6_freshOf_33 rfl ?_
        refine gm_st2 (q := 35) dX6_freshOf_34 (by omega) (by omega)  rfl ?_
        refine g_aload_n (q := 36) dX6_freshOf_35 rfl rfl ?_
        refine g_iload_n (q := 37) dX6_freshOf_36 rfl rfl ?_
        refine g_cv (I' := iX6_learns) (mc := 0) (ms := 0) (rc := 0) (rs := 0) (ci := 7) (q := 40) dX6_freshOf_37 q1700 q1702 rfl qs69 gcX6_learns mO (c_learns (d := d) (hs := mZero hs) hw hz hB hkl hkn hr hr1) rfl rfl ?_
        refine g_istore_n (q := 41) dX6_freshOf_40 gs2 rfl ?_
        refine g_aload_n (q := 42) dX6_freshOf_41 rfl rfl ?_
        refine g_cvV (I' := iX6_takeBack) (mc := 0) (ms := 0) (rc := 0) (rs := 0) (ci := 7) (q := 45) dX6_freshOf_42 q1750 q1752 rfl qs75 gcX6_takeBack mO (c_back (hs0 := hs) h0 h1 (fun j h2 h3 => by rw [cpyI_in (by omega) (by omega)]; congr 1; omega)) rfl rfl ?_
        refine g_iload_n (q := 46) dX6_freshOf_45 rfl rfl ?_
        exact g_iret dX6_freshOf_46 rfl ⟨rfl, rfl⟩
      · exact absurd c10 (by decide)
    | succ n ih =>
      intro i h2 h3
      refine g_iload_n (q := 7) dX6_freshOf_6 rfl rfl ?_
      refine g_sipush (q := 10) dX6_freshOf_7 rfl ?_
      refine g_icmp_ge (t := 26) (q := 13) dX6_freshOf_10 (by decide) rfl (by first | assumption | exact in32_gB | exact in32_gCmp | (unfold in32; omega)) (by first | assumption | exact in32_gB | exact in32_gCmp | (unfold in32; omega)) (fun c10 => ?_) (fun c10 => ?_)
      · exact absurd c10 (by omega)
      · refine g_aload_n (q := 14) dX6_freshOf_13 rfl rfl ?_
        refine gm_get (k := 2) (q := 17) dX6_freshOf_14 q1396 (by decide) rfl rfl ?_
        refine g_iload_n (q := 18) dX6_freshOf_17 rfl rfl ?_
        refine g_iconst (q := 19) dX6_freshOf_18 rfl ?_
        refine gm_st2 (q := 20) dX6_freshOf_19 (by omega) (by omega)  rfl ?_
        rw [zrI_s h2]
        refine g_iinc (q := 23) dX6_freshOf_20 rfl gs2 rfl ?_
        refine g_goto (t := 6) dX6_freshOf_23 (by decide) ?_
        exact ih _ (by omega) (by omega)
  show GO E iX6_freshOf _ _ _ 0 [some (.ref am), some (vI r), none] [] _ _
  refine g_aload_n (q := 1) dX6_freshOf_0 rfl rfl ?_
  refine g_cvV (I' := iX6_copy) (mc := 0) (ms := 0) (rc := 0) (rs := 0) (ci := 7) (q := 4) dX6_freshOf_1 q1746 q1748 rfl qs74 gcX6_copy mO (c_copy h0 h1) rfl rfl ?_
  refine g_iconst (q := 5) dX6_freshOf_4 rfl ?_
  refine g_istore_n (q := 6) dX6_freshOf_5 gs2 rfl ?_
  have := loop 2016 0 (by omega) (by omega)
  rw [zrI_0] at this
  exact this
theorem c_orMany {h : gH} (hv : in32 v) : CALL E iX6_orMany d 0 0 [vI v] h (qR (vI (orM v)) h) := by
  show GO E iX6_orMany _ _ _ 0 [some (vI v)] [] _ _
  refine g_iload_n (q := 1) dX6_orMany_0 rfl rfl ?_
  refine g_iconst (q := 2) dX6_orMany_1 rfl ?_
  refine g_icmp_ne (t := 10) (q := 5) dX6_orMany_2 (by decide) rfl (by first | assumption | exact in32_gB | exact in32_gCmp | (unfold in32; omega)) (by first | assumption | exact in32_gB | exact in32_gCmp | (unfold in32; omega)) (fun c2 => ?_) (fun c2 => ?_)
  · refine g_iload_n (q := 11) dX6_orMany_10 rfl rfl ?_
    exact g_iret dX6_orMany_11 rfl ⟨rI (by unfold orM; first | rw [if_pos c2] | rw [if_neg c2]), rfl⟩
  · refine g_bipush (q := 7) dX6_orMany_5 rfl ?_
    refine g_goto (t := 11) dX6_orMany_7 (by decide) ?_
    exact g_iret dX6_orMany_11 rfl ⟨rI (by unfold orM; first | rw [if_pos c2] | rw [if_neg c2]), rfl⟩
end
