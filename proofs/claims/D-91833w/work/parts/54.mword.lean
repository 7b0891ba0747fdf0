/-! THE REFERENCE: words and numbers -/
set_option maxRecDepth 100000
abbrev wThing : List Int := [116, 104, 105, 110, 103]
abbrev wRow : List Int := [114, 111, 119]
abbrev wGrow : List Int := [103, 114, 111, 119]
abbrev wFall : List Int := [102, 97, 108, 108]
abbrev wMix : List Int := [109, 105, 120]
abbrev wHold : List Int := [104, 111, 108, 100]
abbrev wLean : List Int := [108, 101, 97, 110]
abbrev wEasy : List Int := [101, 97, 115, 121]
abbrev wNext : List Int := [110, 101, 120, 116]
abbrev wBack : List Int := [98, 97, 99, 107]
abbrev wOff : List Int := [111, 102, 102]
abbrev wPlace : List Int := [112, 108, 97, 99, 101]
abbrev wBy : List Int := [98, 121]
abbrev wHas : List Int := [104, 97, 115]
abbrev wLeft : List Int := [108, 101, 102, 116]
abbrev wTired : List Int := [116, 105, 114, 101, 100]
abbrev wHour : List Int := [104, 111, 117, 114]
abbrev wPlus : List Int := [112, 108, 117, 115]
abbrev wMinus : List Int := [109, 105, 110, 117, 115]
abbrev wTimes : List Int := [116, 105, 109, 101, 115]
abbrev wOver : List Int := [111, 118, 101, 114]
/-- the parser's state: at, from, token, value, fault, its place, what is read, hold told, lean told -/
abbrev PS : Type := Int × Int × Int × Int × Int × Int × (Int → Int) × Int × (Int → Int)
def eqL (tp : Int → Int) : List Int → Int → Bool
  | [], _ => true
  | b :: l, p => if tp p = b then eqL tp l (p + 1) else false
abbrev isW (tp : Int → Int) (bs : List Int) (P : PS) : Prop := P.2.2.2.2.1 = 0 ∧ P.2.2.1 = 1 ∧ P.1 - P.2.1 = bs.length ∧ eqL tp bs P.2.1 = true
def PSadv (tp : Int → Int) (sz : Int) (P : PS) : PS := ((adv tp sz P.1 P.2.2.2.1).1, (adv tp sz P.1 P.2.2.2.1).2.1, (adv tp sz P.1 P.2.2.2.1).2.2.1, (adv tp sz P.1 P.2.2.2.1).2.2.2, P.2.2.2.2)
def PSerr (k : Int) (P : PS) : PS := (P.1, P.2.1, P.2.2.1, P.2.2.2.1, k, P.2.1, P.2.2.2.2.2.2)
def PSf (g : Int → Int) (P : PS) : PS := (P.1, P.2.1, P.2.2.1, P.2.2.2.1, P.2.2.2.2.1, P.2.2.2.2.2.1, g, P.2.2.2.2.2.2.2)
def nwP (tp : Int → Int) (sz : Int) (bs : List Int) (P : PS) : PS := if isW tp bs P then PSadv tp sz P else if P.2.2.2.2.1 = 0 then PSerr 1 P else P
def nuP (tp : Int → Int) (sz lo hi : Int) (P : PS) : Int × PS := if P.2.2.2.2.1 = 0 then (if P.2.2.1 = 2 then (if lo ≤ P.2.2.2.1 ∧ P.2.2.2.1 ≤ hi then (P.2.2.2.1, PSadv tp sz P) else (0, PSerr 2 P)) else (0, PSerr 1 P)) else (0, P)
def srP (tp : Int → Int) (P : PS) : Int := if isW tp wNext P then 0 else if isW tp wBack P then 1 else if isW tp wOff P then 2 else if isW tp wPlace P then 3 else -1
/-- the parser's state in order: what stands about its places -/
def PSt (sz : Int) (P : PS) : Prop := (0 ≤ P.2.1 ∧ P.2.1 ≤ P.1 ∧ P.1 ≤ sz) ∧ (0 ≤ P.2.2.1 ∧ P.2.2.1 ≤ 4) ∧ (0 ≤ P.2.2.2.1 ∧ P.2.2.2.1 ≤ 99999) ∧ (0 ≤ P.2.2.2.2.1 ∧ P.2.2.2.2.1 ≤ 3) ∧ (P.2.2.1 ≠ 0 → P.2.1 < P.1)
theorem PSt.adv {tp : Int → Int} {sz : Int} {P : PS} (h : PSt sz P) : PSt sz (PSadv tp sz P) ∧ P.1 ≤ (PSadv tp sz P).2.1 ∧ ((PSadv tp sz P).2.2.1 ≠ 0 → (PSadv tp sz P).2.1 < (PSadv tp sz P).1) := by
  obtain ⟨h1, h2, h3, h4, h5⟩ := h
  obtain ⟨a1, a2, a3, a4⟩ := adv_ok (tp := tp) (sz := sz) (pa := P.1) (vl := P.2.2.2.1) h1.2.2 h3
  exact ⟨⟨⟨Int.le_trans (Int.le_trans h1.1 h1.2.1) a1.1, a1.2⟩, a2, a3, h4, a4⟩, a1.1, a4⟩
theorem PSt.err {sz k : Int} {P : PS} (h : PSt sz P) (hk : 0 ≤ k ∧ k ≤ 3) : PSt sz (PSerr k P) := ⟨h.1, h.2.1, h.2.2.1, hk, h.2.2.2.2⟩
theorem PSt.nu {tp : Int → Int} {sz lo hi : Int} {P : PS} (h : PSt sz P) (h0 : 0 ≤ lo) : PSt sz (nuP tp sz lo hi P).2 ∧ (nuP tp sz lo hi P).2.2.2.2.2.2.2 = P.2.2.2.2.2.2 ∧ P.2.1 ≤ (nuP tp sz lo hi P).2.2.1 ∧ ((nuP tp sz lo hi P).2.2.2.2.2.1 = 0 → P.2.2.1 = 2 ∧ P.2.2.2.2.1 = 0 ∧ P.1 ≤ (nuP tp sz lo hi P).2.2.1 ∧ (nuP tp sz lo hi P).1 = P.2.2.2.1 ∧ lo ≤ (nuP tp sz lo hi P).1 ∧ (nuP tp sz lo hi P).1 ≤ hi) ∧ (P.2.2.2.2.1 ≠ 0 → (nuP tp sz lo hi P).2 = P) := by
  unfold nuP
  by_cases z : P.2.2.2.2.1 = 0
  · rw [if_pos z]
    by_cases y : P.2.2.1 = 2
    · rw [if_pos y]
      by_cases x : lo ≤ P.2.2.2.1 ∧ P.2.2.2.1 ≤ hi
      · rw [if_pos x]
        obtain ⟨a1, a2, a3⟩ := h.adv (tp := tp)
        exact ⟨a1, rfl, Int.le_trans h.1.2.1 a2, fun _ => ⟨y, z, a2, rfl, x⟩, fun q => absurd z q⟩
      · rw [if_neg x]
        exact ⟨h.err (by decide), rfl, Int.le_refl _, fun q => absurd q (by show ¬ (2 : Int) = 0; decide), fun q => absurd z q⟩
    · rw [if_neg y]
      exact ⟨h.err (by decide), rfl, Int.le_refl _, fun q => absurd q (by show ¬ (1 : Int) = 0; decide), fun q => absurd z q⟩
  · rw [if_neg z]
    exact ⟨h, rfl, Int.le_refl _, fun q => absurd q z, fun _ => rfl⟩
theorem PSt.nw {tp : Int → Int} {sz : Int} {bs : List Int} {P : PS} (h : PSt sz P) : PSt sz (nwP tp sz bs P) ∧ (nwP tp sz bs P).2.2.2.2.2.2 = P.2.2.2.2.2.2 ∧ P.2.1 ≤ (nwP tp sz bs P).2.1 ∧ ((nwP tp sz bs P).2.2.2.2.1 = 0 → P.2.2.2.2.1 = 0 ∧ P.1 ≤ (nwP tp sz bs P).2.1) ∧ (P.2.2.2.2.1 ≠ 0 → nwP tp sz bs P = P) := by
  unfold nwP
  by_cases x : isW tp bs P
  · rw [if_pos x]
    obtain ⟨a1, a2, a3⟩ := h.adv (tp := tp)
    exact ⟨a1, rfl, Int.le_trans h.1.2.1 a2, fun _ => ⟨x.1, a2⟩, fun q => absurd x.1 q⟩
  · rw [if_neg x]
    by_cases z : P.2.2.2.2.1 = 0
    · rw [if_pos z]
      exact ⟨h.err (by decide), rfl, Int.le_refl _, fun q => absurd q (by show ¬ (1 : Int) = 0; decide), fun q => absurd z q⟩
    · rw [if_neg z]
      exact ⟨h, rfl, Int.le_refl _, fun q => absurd q z, fun _ => rfl⟩
section
variable {E : gE} {d rc rs am : Nat} {G : gH}
variable {th si lo td sz pa fr tk vl fk fp hdt kl kn cd bp bl : Int} {w hs bk iW iH iB iL iS tp fv fsh lt cp md sw nd mn my wd nm mv : Int → Int}
variable {s a b r r2 i k v e B c n l p low high : Int} {Q : Outcome → gH → Prop} {x : Nat} {bs : List Int}
theorem l_is0 (hS : STR E x bs) : 0 ≤ k → k ≤ 200 → GO E iX6_is (d + 4) 0 0 39 [some (.ref am), some (.ref x), some (vI 0), some (vI k)] [] (mH E G am th w hs si lo bk iW iH iB iL iS tp td fv sz pa fr tk vl fk fp fsh hdt lt kl kn cp cd bp bl md sw nd mn my wd nm mv) (qR (vI 0) (mH E G am th w hs si lo bk iW iH iB iL iS tp td fv sz pa fr tk vl fk fp fsh hdt lt kl kn cp cd bp bl md sw nd mn my wd nm mv)) := by
  intro h0 h1
  have hb := hS.2.2.1.1
  refine g_iload_n (q := 40) dX6_is_39 rfl rfl ?_
  refine g_aload_n (q := 41) dX6_is_40 rfl rfl ?_
  refine g_cvO (I' := iJ4_length) (mc := 0) (ms := 0) (rc := 0) (rs := 0) (q := 44) dX6_is_41 q1568 q659 q660 gcJ4_length (hS.1) (c_slen (d := d + 2) hS) rfl rfl ?_
  refine g_icmp_ge (t := 82) (q := 47) dX6_is_44 (by decide) rfl (by first | assumption | exact in32_gB | exact in32_gCmp | (unfold in32; omega)) (by first | assumption | exact in32_gB | exact in32_gCmp | (unfold in32; omega)) (fun c44 => ?_) (fun c44 => ?_)
  · refine g_iload_n (q := 83) dX6_is_82 rfl rfl ?_
    exact g_zret0 dX6_is_83 rfl ⟨rfl, rfl⟩
  · refine g_iload_n (q := 48) dX6_is_47 rfl rfl ?_
    refine g_if_eq (t := 82) (q := 51) dX6_is_48 (by decide) rfl (by first | assumption | exact in32_gB | exact in32_gCmp | (unfold in32; omega)) (fun c48 => ?_) (fun c48 => ?_)
    · refine g_iload_n (q := 83) dX6_is_82 rfl rfl ?_
      exact g_zret0 dX6_is_83 rfl ⟨rfl, rfl⟩
    · exact absurd rfl c48
theorem l_is1 (hS : STR E x bs) (htp : ∀ j, 0 ≤ j → j < 900 → -128 ≤ tp j ∧ tp j < 128) (hf : 0 ≤ fr) (hf1 : fr + bs.length ≤ 900) : ∀ (l : List Int) (k : Nat), bs.drop k = l → k ≤ bs.length → GO E iX6_is (d + 4) 0 0 39 [some (.ref am), some (.ref x), some (vI 1), some (vI (k : Int))] [] (mH E G am th w hs si lo bk iW iH iB iL iS tp td fv sz pa fr tk vl fk fp fsh hdt lt kl kn cp cd bp bl md sw nd mn my wd nm mv) (qR (vI (gB (eqL tp l (fr + k) = true))) (mH E G am th w hs si lo bk iW iH iB iL iS tp td fv sz pa fr tk vl fk fp fsh hdt lt kl kn cp cd bp bl md sw nd mn my wd nm mv)) := by
  have hb := hS.2.2.1
  intro l
  induction l with
  | nil =>
    intro k e hk
    have q : bs.length ≤ k := List.drop_eq_nil_iff.mp e
    refine g_iload_n (q := 40) dX6_is_39 rfl rfl ?_
    refine g_aload_n (q := 41) dX6_is_40 rfl rfl ?_
    refine g_cvO (I' := iJ4_length) (mc := 0) (ms := 0) (rc := 0) (rs := 0) (q := 44) dX6_is_41 q1568 q659 q660 gcJ4_length (hS.1) (c_slen (d := d + 2) hS) rfl rfl ?_
    refine g_icmp_ge (t := 82) (q := 47) dX6_is_44 (by decide) rfl (by first | assumption | exact in32_gB | exact in32_gCmp | (unfold in32; omega)) (by first | assumption | exact in32_gB | exact in32_gCmp | (unfold in32; omega)) (fun c44 => ?_) (fun c44 => ?_)
    · refine g_iload_n (q := 83) dX6_is_82 rfl rfl ?_
      exact g_zret1 dX6_is_83 rfl ⟨rI (gB_t (show eqL tp [] (fr + k) = true from rfl)).symm, rfl⟩
    · exact absurd c44 (by omega)
  | cons b l ih =>
    intro k e hk
    have hlt : k < bs.length := by
      rcases Nat.lt_or_ge k bs.length with w | w
      · exact w
      · rw [List.drop_eq_nil_iff.mpr w] at e; cases e
    have e1 : bs.getD (Int.toNat (k : Int)) 0 = b := by
      rw [Int.toNat_natCast, List.getD_eq_getElem?_getD, List.getElem?_eq_getElem hlt]
      rw [List.drop_eq_getElem_cons hlt] at e
      exact (List.cons.inj e).1
    have e2 : bs.drop (k + 1) = l := by
      rw [List.drop_eq_getElem_cons hlt] at e
      exact (List.cons.inj e).2
    have hbb : 0 ≤ b ∧ b < 128 := hb.2 b (List.mem_of_mem_drop (by rw [e]; exact List.mem_cons_self))
    have ht := htp (fr + k) (by omega) (by omega)
    have ec : ((k : Int) + 1) = ((k + 1 : Nat) : Int) := by omega
    refine g_iload_n (q := 40) dX6_is_39 rfl rfl ?_
    refine g_aload_n (q := 41) dX6_is_40 rfl rfl ?_
    refine g_cvO (I' := iJ4_length) (mc := 0) (ms := 0) (rc := 0) (rs := 0) (q := 44) dX6_is_41 q1568 q659 q660 gcJ4_length (hS.1) (c_slen (d := d + 2) hS) rfl rfl ?_
    refine g_icmp_ge (t := 82) (q := 47) dX6_is_44 (by decide) rfl (by first | assumption | exact in32_gB | exact in32_gCmp | (unfold in32; omega)) (by first | assumption | exact in32_gB | exact in32_gCmp | (unfold in32; omega)) (fun c44 => ?_) (fun c44 => ?_)
    · exact absurd c44 (by omega)
    · refine g_iload_n (q := 48) dX6_is_47 rfl rfl ?_
      refine g_if_eq (t := 82) (q := 51) dX6_is_48 (by decide) rfl (by first | assumption | exact in32_gB | exact in32_gCmp | (unfold in32; omega)) (fun c48 => ?_) (fun c48 => ?_)
      · exact absurd c48 (by decide)
      · refine g_aload_n (q := 52) dX6_is_51 rfl rfl ?_
        refine gm_get (k := 11) (q := 55) dX6_is_52 q1405 (by decide) rfl rfl ?_
        refine g_aload_n (q := 56) dX6_is_55 rfl rfl ?_
        refine gm_get (k := 16) (q := 59) dX6_is_56 q1410 (by decide) rfl rfl ?_
        refine g_iload_n (q := 60) dX6_is_59 rfl rfl ?_
        refine g_iadd (q := 61) dX6_is_60 rfl ?_
        refine g_bald (q := 62) dX6_is_61 mA11 (by omega) (by omega) rfl ?_
        refine g_aload_n (q := 63) dX6_is_62 rfl rfl ?_
        refine g_iload_n (q := 64) dX6_is_63 rfl rfl ?_
        refine g_cvO (I' := iJ4_charAt) (mc := 0) (ms := 0) (rc := 0) (rs := 0) (q := 67) dX6_is_64 q1569 q669 q670 gcJ4_charAt (hS.1) (c_charAt (d := d) hS (by omega) (by omega)) rfl rfl ?_
        rw [e1]
        refine g_icmp_ne (t := 74) (q := 70) dX6_is_67 (by decide) rfl (by first | assumption | exact in32_gB | exact in32_gCmp | (unfold in32; omega)) (by first | assumption | exact in32_gB | exact in32_gCmp | (unfold in32; omega)) (fun c67 => ?_) (fun c67 => ?_)
        · refine g_iconst (q := 75) dX6_is_74 rfl ?_
          refine g_istore_n (q := 76) dX6_is_75 gs2 rfl ?_
          refine g_iinc (q := 79) dX6_is_76 rfl gs3 rfl ?_
          refine g_goto (t := 39) dX6_is_79 (by decide) ?_
          first
          | (have z := ih (k + 1) e2 (by omega); rw [show eqL tp (b :: l) (fr + k) = eqL tp l (fr + k + 1) from if_pos c67, ec, show fr + (k : Int) + 1 = fr + ((k + 1 : Nat) : Int) by omega]; exact z)
          | (rw [show gB (eqL tp (b :: l) (fr + k) = true) = 0 from gB_f (by rw [show eqL tp (b :: l) (fr + k) = false from if_neg c67]; decide)]; exact l_is0 hS (by omega) (by omega))
        · refine g_iconst (q := 71) dX6_is_70 rfl ?_
          refine g_goto (t := 75) dX6_is_71 (by decide) ?_
          refine g_istore_n (q := 76) dX6_is_75 gs2 rfl ?_
          refine g_iinc (q := 79) dX6_is_76 rfl gs3 rfl ?_
          refine g_goto (t := 39) dX6_is_79 (by decide) ?_
          first
          | (have z := ih (k + 1) e2 (by omega); rw [show eqL tp (b :: l) (fr + k) = eqL tp l (fr + k + 1) from if_pos c67, ec, show fr + (k : Int) + 1 = fr + ((k + 1 : Nat) : Int) by omega]; exact z)
          | (rw [show gB (eqL tp (b :: l) (fr + k) = true) = 0 from gB_f (by rw [show eqL tp (b :: l) (fr + k) = false from if_neg c67]; decide)]; exact l_is0 hS (by omega) (by omega))
theorem c_is (hS : STR E x bs) (htp : ∀ j, 0 ≤ j → j < 900 → -128 ≤ tp j ∧ tp j < 128) (hP : PSt sz (pa, fr, tk, vl, fk, fp, fsh, hdt, lt)) (hz : sz ≤ 900) : CALL E iX6_is (d + 4) 0 0 [.ref am, .ref x] (mH E G am th w hs si lo bk iW iH iB iL iS tp td fv sz pa fr tk vl fk fp fsh hdt lt kl kn cp cd bp bl md sw nd mn my wd nm mv) (qR (vI (gB (isW tp bs (pa, fr, tk, vl, fk, fp, fsh, hdt, lt)))) (mH E G am th w hs si lo bk iW iH iB iL iS tp td fv sz pa fr tk vl fk fp fsh hdt lt kl kn cp cd bp bl md sw nd mn my wd nm mv)) := by
  have h1 : 0 ≤ fr ∧ fr ≤ pa ∧ pa ≤ sz := hP.1
  have h2 : 0 ≤ tk ∧ tk ≤ 4 := hP.2.1
  have h3 : 0 ≤ fk ∧ fk ≤ 3 := hP.2.2.2.1
  have hb := hS.2.2.1.1
  have k1 : fk = 0 → tk = 1 → pa - fr = bs.length → GO E iX6_is (d + 4) 0 0 39 [some (.ref am), some (.ref x), some (vI 1), some (vI 0)] [] (mH E G am th w hs si lo bk iW iH iB iL iS tp td fv sz pa fr tk vl fk fp fsh hdt lt kl kn cp cd bp bl md sw nd mn my wd nm mv) (qR (vI (gB (isW tp bs (pa, fr, tk, vl, fk, fp, fsh, hdt, lt)))) (mH E G am th w hs si lo bk iW iH iB iL iS tp td fv sz pa fr tk vl fk fp fsh hdt lt kl kn cp cd bp bl md sw nd mn my wd nm mv)) := by
    intro c4 c12 c28
    have z := l_is1 (E := E) (d := d) (am := am) (G := G) (th := th) (w := w) (hs := hs) (si := si) (lo := lo) (bk := bk) (iW := iW) (iH := iH) (iB := iB) (iL := iL) (iS := iS) (td := td) (fv := fv) (sz := sz) (pa := pa) (tk := tk) (vl := vl) (fk := fk) (fp := fp) (fsh := fsh) (hdt := hdt) (lt := lt) (kl := kl) (kn := kn) (cp := cp) (cd := cd) (bp := bp) (bl := bl) (md := md) (sw := sw) (nd := nd) (mn := mn) (my := my) (wd := wd) (nm := nm) (mv := mv) hS htp h1.1 (by omega) bs 0 rfl (by omega)
    rw [show fr + ((0 : Nat) : Int) = fr from Int.add_zero fr] at z
    rw [show gB (isW tp bs (pa, fr, tk, vl, fk, fp, fsh, hdt, lt)) = gB (eqL tp bs fr = true) from gB_i ⟨fun q => q.2.2.2, fun q => ⟨c4, c12, c28, q⟩⟩]
    exact z
  show GO E iX6_is _ _ _ 0 [some (.ref am), some (.ref x), none, none] [] _ _
  refine g_aload_n (q := 1) dX6_is_0 rfl rfl ?_
  refine g_cv (I' := iX6_good) (mc := 0) (ms := 0) (rc := 0) (rs := 0) (ci := 7) (q := 4) dX6_is_1 q1555 q1557 rfl qs45 gcX6_good mO (c_good (d := d + 3) (by unfold in32; omega)) rfl rfl ?_
  refine g_ifeqB (t := 35) (q := 7) dX6_is_4 (by decide) rfl (fun c4 => ?_) (fun c4 => ?_)
  · refine g_iconst (q := 36) dX6_is_35 rfl ?_
    refine g_istore_n (q := 37) dX6_is_36 gs2 rfl ?_
    refine g_iconst (q := 38) dX6_is_37 rfl ?_
    refine g_istore_n (q := 39) dX6_is_38 gs3 rfl ?_
    first
    | exact k1 c4 c12 c28
    | (rw [show gB (isW tp bs (pa, fr, tk, vl, fk, fp, fsh, hdt, lt)) = 0 from gB_f (fun q => absurd q.1 c4)]; exact l_is0 hS (by omega) (by omega))
    | (rw [show gB (isW tp bs (pa, fr, tk, vl, fk, fp, fsh, hdt, lt)) = 0 from gB_f (fun q => absurd q.2.1 c12)]; exact l_is0 hS (by omega) (by omega))
    | (rw [show gB (isW tp bs (pa, fr, tk, vl, fk, fp, fsh, hdt, lt)) = 0 from gB_f (fun q => absurd q.2.2.1 c28)]; exact l_is0 hS (by omega) (by omega))
  · refine g_aload_n (q := 8) dX6_is_7 rfl rfl ?_
    refine gm_get (k := 17) (q := 11) dX6_is_8 q1411 (by decide) rfl rfl ?_
    refine g_iconst (q := 12) dX6_is_11 rfl ?_
    refine g_icmp_ne (t := 35) (q := 15) dX6_is_12 (by decide) rfl (by first | assumption | exact in32_gB | exact in32_gCmp | (unfold in32; omega)) (by first | assumption | exact in32_gB | exact in32_gCmp | (unfold in32; omega)) (fun c12 => ?_) (fun c12 => ?_)
    · refine g_iconst (q := 36) dX6_is_35 rfl ?_
      refine g_istore_n (q := 37) dX6_is_36 gs2 rfl ?_
      refine g_iconst (q := 38) dX6_is_37 rfl ?_
      refine g_istore_n (q := 39) dX6_is_38 gs3 rfl ?_
      first
      | exact k1 c4 c12 c28
      | (rw [show gB (isW tp bs (pa, fr, tk, vl, fk, fp, fsh, hdt, lt)) = 0 from gB_f (fun q => absurd q.1 c4)]; exact l_is0 hS (by omega) (by omega))
      | (rw [show gB (isW tp bs (pa, fr, tk, vl, fk, fp, fsh, hdt, lt)) = 0 from gB_f (fun q => absurd q.2.1 c12)]; exact l_is0 hS (by omega) (by omega))
      | (rw [show gB (isW tp bs (pa, fr, tk, vl, fk, fp, fsh, hdt, lt)) = 0 from gB_f (fun q => absurd q.2.2.1 c28)]; exact l_is0 hS (by omega) (by omega))
    · refine g_aload_n (q := 16) dX6_is_15 rfl rfl ?_
      refine gm_get (k := 15) (q := 19) dX6_is_16 q1409 (by decide) rfl rfl ?_
      refine g_aload_n (q := 20) dX6_is_19 rfl rfl ?_
      refine gm_get (k := 16) (q := 23) dX6_is_20 q1410 (by decide) rfl rfl ?_
      refine g_isub (q := 24) dX6_is_23 rfl ?_
      refine g_aload_n (q := 25) dX6_is_24 rfl rfl ?_
      refine g_cvO (I' := iJ4_length) (mc := 0) (ms := 0) (rc := 0) (rs := 0) (q := 28) dX6_is_25 q1568 q659 q660 gcJ4_length (hS.1) (c_slen (d := d + 2) hS) rfl rfl ?_
      refine g_icmp_ne (t := 35) (q := 31) dX6_is_28 (by decide) rfl (by first | assumption | exact in32_gB | exact in32_gCmp | (unfold in32; omega)) (by first | assumption | exact in32_gB | exact in32_gCmp | (unfold in32; omega)) (fun c28 => ?_) (fun c28 => ?_)
      · refine g_iconst (q := 36) dX6_is_35 rfl ?_
        refine g_istore_n (q := 37) dX6_is_36 gs2 rfl ?_
        refine g_iconst (q := 38) dX6_is_37 rfl ?_
        refine g_istore_n (q := 39) dX6_is_38 gs3 rfl ?_
        first
        | exact k1 c4 c12 c28
        | (rw [show gB (isW tp bs (pa, fr, tk, vl, fk, fp, fsh, hdt, lt)) = 0 from gB_f (fun q => absurd q.1 c4)]; exact l_is0 hS (by omega) (by omega))
        | (rw [show gB (isW tp bs (pa, fr, tk, vl, fk, fp, fsh, hdt, lt)) = 0 from gB_f (fun q => absurd q.2.1 c12)]; exact l_is0 hS (by omega) (by omega))
        | (rw [show gB (isW tp bs (pa, fr, tk, vl, fk, fp, fsh, hdt, lt)) = 0 from gB_f (fun q => absurd q.2.2.1 c28)]; exact l_is0 hS (by omega) (by omega))
      · refine g_iconst (q := 32) dX6_is_31 rfl ?_
        refine g_goto (t := 36) dX6_is_32 (by decide) ?_
        refine g_istore_n (q := 37) dX6_is_36 gs2 rfl ?_
        refine g_iconst (q := 38) dX6_is_37 rfl ?_
        refine g_istore_n (q := 39) dX6_is_38 gs3 rfl ?_
        first
        | exact k1 c4 c12 c28
        | (rw [show gB (isW tp bs (pa, fr, tk, vl, fk, fp, fsh, hdt, lt)) = 0 from gB_f (fun q => absurd q.1 c4)]; exact l_is0 hS (by omega) (by omega))
        | (rw [show gB (isW tp bs (pa, fr, tk, vl, fk, fp, fsh, hdt, lt)) = 0 from gB_f (fun q => absurd q.2.1 c12)]; exact l_is0 hS (by omega) (by omega))
        | (rw [show gB (isW tp bs (pa, fr, tk, vl, fk, fp, fsh, hdt, lt)) = 0 from gB_f (fun q => absurd q.2.2.1 c28)]; exact l_is0 hS (by omega) (by omega))
theorem c_takes1 (hS : STR E x bs) (htp : ∀ j, 0 ≤ j → j < 900 → -128 ≤ tp j ∧ tp j < 128) (hP : PSt sz (pa, fr, tk, vl, fk, fp, fsh, hdt, lt)) (hz : sz ≤ 900) (hi : isW tp bs (pa, fr, tk, vl, fk, fp, fsh, hdt, lt)) : CALL E iX6_takes (d + 5) 0 0 [.ref am, .ref x] (mH E G am th w hs si lo bk iW iH iB iL iS tp td fv sz pa fr tk vl fk fp fsh hdt lt kl kn cp cd bp bl md sw nd mn my wd nm mv) ((qP fun vP kP => ∃ nP pa_ fr_ tk_ vl_ fk_ fp_ fsh_ hdt_ lt_, (nP, pa_, fr_, tk_, vl_, fk_, fp_, fsh_, hdt_, lt_) = (1, PSadv tp sz (pa, fr, tk, vl, fk, fp, fsh, hdt, lt)) ∧ vP = vI nP ∧ kP = (mH E G am th w hs si lo bk iW iH iB iL iS tp td fv sz pa_ fr_ tk_ vl_ fk_ fp_ fsh_ hdt_ lt_ kl kn cp cd bp bl md sw nd mn my wd nm mv))) := by
  have h1 : 0 ≤ fr ∧ fr ≤ pa ∧ pa ≤ sz := hP.1
  show GO E iX6_takes _ _ _ 0 [some (.ref am), some (.ref x), none] [] _ _
  refine g_aload_n (q := 1) dX6_takes_0 rfl rfl ?_
  refine g_aload_n (q := 2) dX6_takes_1 rfl rfl ?_
  refine g_cv (I' := iX6_is) (mc := 0) (ms := 0) (rc := 0) (rs := 0) (ci := 7) (q := 5) dX6_takes_2 q1564 q1566 rfl qs47 gcX6_is mO (c_is (d := d) hS htp hP hz) rfl rfl ?_
  rw [gB_t hi]
  refine g_istore_n (q := 6) dX6_takes_5 gs2 rfl ?_
  refine g_iload_n (q := 7) dX6_takes_6 rfl rfl ?_
  refine g_if_eq (t := 14) (q := 10) dX6_takes_7 (by decide) rfl (by first | assumption | exact in32_gB | exact in32_gCmp | (unfold in32; omega)) (fun c7 => ?_) (fun c7 => ?_)
  · exact absurd c7 (by decide)
  · refine g_aload_n (q := 11) dX6_takes_10 rfl rfl ?_
    refine g_cvV (I' := iX6_advance) (mc := 0) (ms := 0) (rc := 0) (rs := 0) (ci := 7) (q := 14) dX6_takes_11 q1541 q1543 rfl qs43 gcX6_advance mO (c_advance hz (by omega) h1.2.2) rfl rfl ?_
    refine g_iload_n (q := 15) dX6_takes_14 rfl rfl ?_
    exact g_zret1 dX6_takes_15 rfl ⟨_, rfl, 1, _, _, _, _, _, _, _, _, _, rfl, rfl, rfl⟩
theorem c_takes0 (hS : STR E x bs) (htp : ∀ j, 0 ≤ j → j < 900 → -128 ≤ tp j ∧ tp j < 128) (hP : PSt sz (pa, fr, tk, vl, fk, fp, fsh, hdt, lt)) (hz : sz ≤ 900) (hi : ¬ isW tp bs (pa, fr, tk, vl, fk, fp, fsh, hdt, lt)) : CALL E iX6_takes (d + 5) 0 0 [.ref am, .ref x] (mH E G am th w hs si lo bk iW iH iB iL iS tp td fv sz pa fr tk vl fk fp fsh hdt lt kl kn cp cd bp bl md sw nd mn my wd nm mv) (qR (vI 0) (mH E G am th w hs si lo bk iW iH iB iL iS tp td fv sz pa fr tk vl fk fp fsh hdt lt kl kn cp cd bp bl md sw nd mn my wd nm mv)) := by
  show GO E iX6_takes _ _ _ 0 [some (.ref am), some (.ref x), none] [] _ _
  refine g_aload_n (q := 1) dX6_takes_0 rfl rfl ?_
  refine g_aload_n (q := 2) dX6_takes_1 rfl rfl ?_
  refine g_cv (I' := iX6_is) (mc := 0) (ms := 0) (rc := 0) (rs := 0) (ci := 7) (q := 5) dX6_takes_2 q1564 q1566 rfl qs47 gcX6_is mO (c_is (d := d) hS htp hP hz) rfl rfl ?_
  rw [gB_f hi]
  refine g_istore_n (q := 6) dX6_takes_5 gs2 rfl ?_
  refine g_iload_n (q := 7) dX6_takes_6 rfl rfl ?_
  refine g_if_eq (t := 14) (q := 10) dX6_takes_7 (by decide) rfl (by first | assumption | exact in32_gB | exact in32_gCmp | (unfold in32; omega)) (fun c7 => ?_) (fun c7 => ?_)
  · refine g_iload_n (q := 15) dX6_takes_14 rfl rfl ?_
    exact g_zret0 dX6_takes_15 rfl ⟨rfl, rfl⟩
  · exact absurd rfl c7
theorem c_needsWord (hS : STR E x bs) (htp : ∀ j, 0 ≤ j → j < 900 → -128 ≤ tp j ∧ tp j < 128) (hP : PSt sz (pa, fr, tk, vl, fk, fp, fsh, hdt, lt)) (hz : sz ≤ 900) : CALL E iX6_needsWord (d + 6) 0 0 [.ref am, .ref x] (mH E G am th w hs si lo bk iW iH iB iL iS tp td fv sz pa fr tk vl fk fp fsh hdt lt kl kn cp cd bp bl md sw nd mn my wd nm mv) ((qVP fun kP => ∃ pa_ fr_ tk_ vl_ fk_ fp_ fsh_ hdt_ lt_, (pa_, fr_, tk_, vl_, fk_, fp_, fsh_, hdt_, lt_) = nwP tp sz bs (pa, fr, tk, vl, fk, fp, fsh, hdt, lt) ∧ kP = (mH E G am th w hs si lo bk iW iH iB iL iS tp td fv sz pa_ fr_ tk_ vl_ fk_ fp_ fsh_ hdt_ lt_ kl kn cp cd bp bl md sw nd mn my wd nm mv))) := by
  have h3 : 0 ≤ fk ∧ fk ≤ 3 := hP.2.2.2.1
  unfold nwP
  by_cases z : isW tp bs (pa, fr, tk, vl, fk, fp, fsh, hdt, lt)
  · rw [if_pos z]
    show GO E iX6_needsWord _ _ _ 0 [some (.ref am), some (.ref x)] [] _ _
    refine g_aload_n (q := 1) dX6_needsWord_0 rfl rfl ?_
    refine g_aload_n (q := 2) dX6_needsWord_1 rfl rfl ?_
    refine g_cvP (I' := iX6_takes) (mc := 0) (ms := 0) (rc := 0) (rs := 0) (ci := 7) (q := 5) dX6_needsWord_2 q1580 q1582 rfl qs49 gcX6_takes mO (c_takes1 (d := d) hS htp hP hz z) rfl rfl (fun v2 k2 z2 => ?_)
    obtain ⟨n1, pa1, fr1, tk1, vl1, fk1, fp1, fsh1, hdt1, lt1, e1, rfl, rfl⟩ := z2
    obtain rfl : n1 = 1 := (Prod.mk.inj e1).1
    refine g_if_ne (t := 13) (q := 8) dX6_needsWord_5 (by decide) rfl (by first | assumption | exact in32_gB | exact in32_gCmp | (unfold in32; omega)) (fun c5 => ?_) (fun c5 => ?_)
    · exact g_vret dX6_needsWord_13 rfl ⟨rfl, _, _, _, _, _, _, _, _, _, (Prod.mk.inj e1).2, rfl⟩
    · exact absurd c5 (by decide)
  · rw [if_neg z]
    by_cases y : fk = 0
    · rw [if_pos y]
      show GO E iX6_needsWord _ _ _ 0 [some (.ref am), some (.ref x)] [] _ _
      refine g_aload_n (q := 1) dX6_needsWord_0 rfl rfl ?_
      refine g_aload_n (q := 2) dX6_needsWord_1 rfl rfl ?_
      refine g_cv (I' := iX6_takes) (mc := 0) (ms := 0) (rc := 0) (rs := 0) (ci := 7) (q := 5) dX6_needsWord_2 q1580 q1582 rfl qs49 gcX6_takes mO (c_takes0 (d := d) hS htp hP hz z) rfl rfl ?_
      refine g_if_ne (t := 13) (q := 8) dX6_needsWord_5 (by decide) rfl (by first | assumption | exact in32_gB | exact in32_gCmp | (unfold in32; omega)) (fun c5 => ?_) (fun c5 => ?_)
      · exact absurd rfl c5
      · refine g_aload_n (q := 9) dX6_needsWord_8 rfl rfl ?_
        refine g_iconst (q := 10) dX6_needsWord_9 rfl ?_
        refine g_cvV (I' := iX6_errs) (mc := 0) (ms := 0) (rc := 0) (rs := 0) (ci := 7) (q := 13) dX6_needsWord_10 q1576 q1578 rfl qs48 gcX6_errs mO (c_errs y) rfl rfl ?_
        exact g_vret dX6_needsWord_13 rfl ⟨rfl, _, _, _, _, _, _, _, _, _, rfl, rfl⟩
    · rw [if_neg y]
      show GO E iX6_needsWord _ _ _ 0 [some (.ref am), some (.ref x)] [] _ _
      refine g_aload_n (q := 1) dX6_needsWord_0 rfl rfl ?_
      refine g_aload_n (q := 2) dX6_needsWord_1 rfl rfl ?_
      refine g_cv (I' := iX6_takes) (mc := 0) (ms := 0) (rc := 0) (rs := 0) (ci := 7) (q := 5) dX6_needsWord_2 q1580 q1582 rfl qs49 gcX6_takes mO (c_takes0 (d := d) hS htp hP hz z) rfl rfl ?_
      refine g_if_ne (t := 13) (q := 8) dX6_needsWord_5 (by decide) rfl (by first | assumption | exact in32_gB | exact in32_gCmp | (unfold in32; omega)) (fun c5 => ?_) (fun c5 => ?_)
      · exact absurd rfl c5
      · refine g_aload_n (q := 9) dX6_needsWord_8 rfl rfl ?_
        refine g_iconst (q := 10) dX6_needsWord_9 rfl ?_
        refine g_cvV (I' := iX6_errs) (mc := 0) (ms := 0) (rc := 0) (rs := 0) (ci := 7) (q := 13) dX6_needsWord_10 q1576 q1578 rfl qs48 gcX6_errs mO (c_errs_no (by unfold in32; omega) y) rfl rfl ?_
        exact g_vret dX6_needsWord_13 rfl ⟨rfl, _, _, _, _, _, _, _, _, _, rfl, rfl⟩
theorem c_number (hP : PSt sz (pa, fr, tk, vl, fk, fp, fsh, hdt, lt)) (hz : sz ≤ 900) (hlo : 0 ≤ low ∧ low ≤ 10000) (hhi : 0 ≤ high ∧ high ≤ 10000) : CALL E iX6_number (d + 2) 0 0 [.ref am, vI low, vI high] (mH E G am th w hs si lo bk iW iH iB iL iS tp td fv sz pa fr tk vl fk fp fsh hdt lt kl kn cp cd bp bl md sw nd mn my wd nm mv) ((qP fun vP kP => ∃ nP pa_ fr_ tk_ vl_ fk_ fp_ fsh_ hdt_ lt_, (nP, pa_, fr_, tk_, vl_, fk_, fp_, fsh_, hdt_, lt_) = nuP tp sz low high (pa, fr, tk, vl, fk, fp, fsh, hdt, lt) ∧ vP = vI nP ∧ kP = (mH E G am th w hs si lo bk iW iH iB iL iS tp td fv sz pa_ fr_ tk_ vl_ fk_ fp_ fsh_ hdt_ lt_ kl kn cp cd bp bl md sw nd mn my wd nm mv))) := by
  have h1 : 0 ≤ fr ∧ fr ≤ pa ∧ pa ≤ sz := hP.1
  have h2 : 0 ≤ tk ∧ tk ≤ 4 := hP.2.1
  have h4 : 0 ≤ vl ∧ vl ≤ 99999 := hP.2.2.1
  have h3 : 0 ≤ fk ∧ fk ≤ 3 := hP.2.2.2.1
  unfold nuP
  by_cases z : fk = 0
  · rw [if_pos z]
    by_cases y : tk = 2
    · rw [if_pos y]
      by_cases x : low ≤ vl ∧ vl ≤ high
      · rw [if_pos x]
        show GO E iX6_number _ _ _ 0 [some (.ref am), some (vI low), some (vI high), none] [] _ _
        refine g_aload_n (q := 1) dX6_number_0 rfl rfl ?_
        refine g_cv (I' := iX6_good) (mc := 0) (ms := 0) (rc := 0) (rs := 0) (ci := 7) (q := 4) dX6_number_1 q1555 q1557 rfl qs45 gcX6_good mO (c_good (by unfold in32; omega)) rfl rfl ?_
        refine g_ifeqB (t := 20) (q := 7) dX6_number_4 (by decide) rfl (fun c4 => ?_) (fun c4 => ?_)
        · exact absurd z c4
        · refine g_aload_n (q := 8) dX6_number_7 rfl rfl ?_
          refine gm_get (k := 17) (q := 11) dX6_number_8 q1411 (by decide) rfl rfl ?_
          refine g_iconst (q := 12) dX6_number_11 rfl ?_
          refine g_icmp_eq (t := 20) (q := 15) dX6_number_12 (by decide) rfl (by first | assumption | exact in32_gB | exact in32_gCmp | (unfold in32; omega)) (by first | assumption | exact in32_gB | exact in32_gCmp | (unfold in32; omega)) (fun c12 => ?_) (fun c12 => ?_)
          · refine g_aload_n (q := 21) dX6_number_20 rfl rfl ?_
            refine g_cv (I' := iX6_good) (mc := 0) (ms := 0) (rc := 0) (rs := 0) (ci := 7) (q := 24) dX6_number_21 q1555 q1557 rfl qs45 gcX6_good mO (c_good (by unfold in32; omega)) rfl rfl ?_
            refine g_ifeqB (t := 47) (q := 27) dX6_number_24 (by decide) rfl (fun c24 => ?_) (fun c24 => ?_)
            · exact absurd z c24
            · refine g_aload_n (q := 28) dX6_number_27 rfl rfl ?_
              refine gm_get (k := 18) (q := 31) dX6_number_28 q1412 (by decide) rfl rfl ?_
              refine g_i2l (q := 32) dX6_number_31 (by first | assumption | exact in32_gB | exact in32_gCmp | (unfold in32; omega)) rfl ?_
              refine g_iload_n (q := 33) dX6_number_32 rfl rfl ?_
              refine g_i2l (q := 34) dX6_number_33 (by first | assumption | exact in32_gB | exact in32_gCmp | (unfold in32; omega)) rfl ?_
              refine g_iload_n (q := 35) dX6_number_34 rfl rfl ?_
              refine g_i2l (q := 36) dX6_number_35 (by first | assumption | exact in32_gB | exact in32_gCmp | (unfold in32; omega)) rfl ?_
              refine g_cs (I' := iX6_in) (mc := 0) (ms := 0) (rc := 0) (rs := 0) (q := 39) dX6_number_36 q1514 q1515 gcX6_in (c_inM (by unfold in64; omega) (by unfold in64; omega) (by unfold in64; omega)) rfl rfl ?_
              refine g_ifneB (t := 47) (q := 42) dX6_number_39 (by decide) rfl (fun c39 => ?_) (fun c39 => ?_)
              · refine g_aload_n (q := 48) dX6_number_47 rfl rfl ?_
                refine g_cv (I' := iX6_good) (mc := 0) (ms := 0) (rc := 0) (rs := 0) (ci := 7) (q := 51) dX6_number_48 q1555 q1557 rfl qs45 gcX6_good mO (c_good (by unfold in32; omega)) rfl rfl ?_
                refine g_ifneB (t := 56) (q := 54) dX6_number_51 (by decide) rfl (fun c51 => ?_) (fun c51 => ?_)
                · refine g_aload_n (q := 57) dX6_number_56 rfl rfl ?_
                  refine gm_get (k := 18) (q := 60) dX6_number_57 q1412 (by decide) rfl rfl ?_
                  refine g_istore_n (q := 61) dX6_number_60 gs3 rfl ?_
                  refine g_aload_n (q := 62) dX6_number_61 rfl rfl ?_
                  refine g_cvV (I' := iX6_advance) (mc := 0) (ms := 0) (rc := 0) (rs := 0) (ci := 7) (q := 65) dX6_number_62 q1541 q1543 rfl qs43 gcX6_advance mO (c_advance hz (by omega) h1.2.2) rfl rfl ?_
                  refine g_iload_n (q := 66) dX6_number_65 rfl rfl ?_
                  exact g_iret dX6_number_66 rfl ⟨_, rfl, _, _, _, _, _, _, _, _, _, _, rfl, rfl, rfl⟩
                · exact absurd z c51
              · exact absurd x c39
          · exact absurd y c12
      · rw [if_neg x]
        show GO E iX6_number _ _ _ 0 [some (.ref am), some (vI low), some (vI high), none] [] _ _
        refine g_aload_n (q := 1) dX6_number_0 rfl rfl ?_
        refine g_cv (I' := iX6_good) (mc := 0) (ms := 0) (rc := 0) (rs := 0) (ci := 7) (q := 4) dX6_number_1 q1555 q1557 rfl qs45 gcX6_good mO (c_good (by unfold in32; omega)) rfl rfl ?_
        refine g_ifeqB (t := 20) (q := 7) dX6_number_4 (by decide) rfl (fun c4 => ?_) (fun c4 => ?_)
        · exact absurd z c4
        · refine g_aload_n (q := 8) dX6_number_7 rfl rfl ?_
          refine gm_get (k := 17) (q := 11) dX6_number_8 q1411 (by decide) rfl rfl ?_
          refine g_iconst (q := 12) dX6_number_11 rfl ?_
          refine g_icmp_eq (t := 20) (q := 15) dX6_number_12 (by decide) rfl (by first | assumption | exact in32_gB | exact in32_gCmp | (unfold in32; omega)) (by first | assumption | exact in32_gB | exact in32_gCmp | (unfold in32; omega)) (fun c12 => ?_) (fun c12 => ?_)
          · refine g_aload_n (q := 21) dX6_number_20 rfl rfl ?_
            refine g_cv (I' := iX6_good) (mc := 0) (ms := 0) (rc := 0) (rs := 0) (ci := 7) (q := 24) dX6_number_21 q1555 q1557 rfl qs45 gcX6_good mO (c_good (by unfold in32; omega)) rfl rfl ?_
            refine g_ifeqB (t := 47) (q := 27) dX6_number_24 (by decide) rfl (fun c24 => ?_) (fun c24 => ?_)
            · exact absurd z c24
            · refine g_aload_n (q := 28) dX6_number_27 rfl rfl ?_
              refine gm_get (k := 18) (q := 31) dX6_number_28 q1412 (by decide) rfl rfl ?_
              refine g_i2l (q := 32) dX6_number_31 (by first | assumption | exact in32_gB | exact in32_gCmp | (unfold in32; omega)) rfl ?_
              refine g_iload_n (q := 33) dX6_number_32 rfl rfl ?_
              refine g_i2l (q := 34) dX6_number_33 (by first | assumption | exact in32_gB | exact in32_gCmp | (unfold in32; omega)) rfl ?_
              refine g_iload_n (q := 35) dX6_number_34 rfl rfl ?_
              refine g_i2l (q := 36) dX6_number_35 (by first | assumption | exact in32_gB | exact in32_gCmp | (unfold in32; omega)) rfl ?_
              refine g_cs (I' := iX6_in) (mc := 0) (ms := 0) (rc := 0) (rs := 0) (q := 39) dX6_number_36 q1514 q1515 gcX6_in (c_inM (by unfold in64; omega) (by unfold in64; omega) (by unfold in64; omega)) rfl rfl ?_
              refine g_ifneB (t := 47) (q := 42) dX6_number_39 (by decide) rfl (fun c39 => ?_) (fun c39 => ?_)
              · exact absurd c39 x
              · refine g_aload_n (q := 43) dX6_number_42 rfl rfl ?_
                refine g_iconst (q := 44) dX6_number_43 rfl ?_
                refine g_cvV (I' := iX6_errs) (mc := 0) (ms := 0) (rc := 0) (rs := 0) (ci := 7) (q := 47) dX6_number_44 q1576 q1578 rfl qs48 gcX6_errs mO (c_errs z) rfl rfl ?_
                refine g_aload_n (q := 48) dX6_number_47 rfl rfl ?_
                refine g_cv (I' := iX6_good) (mc := 0) (ms := 0) (rc := 0) (rs := 0) (ci := 7) (q := 51) dX6_number_48 q1555 q1557 rfl qs45 gcX6_good mO (c_good (by unfold in32; omega)) rfl rfl ?_
                refine g_ifneB (t := 56) (q := 54) dX6_number_51 (by decide) rfl (fun c51 => ?_) (fun c51 => ?_)
                · exact absurd c51 (by decide)
                · refine g_iconst (q := 55) dX6_number_54 rfl ?_
                  exact g_iret dX6_number_55 rfl ⟨_, rfl, _, _, _, _, _, _, _, _, _, _, rfl, rfl, rfl⟩
          · exact absurd y c12
    · rw [if_neg y]
      show GO E iX6_number _ _ _ 0 [some (.ref am), some (vI low), some (vI high), none] [] _ _
      refine g_aload_n (q := 1) dX6_number_0 rfl rfl ?_
      refine g_cv (I' := iX6_good) (mc := 0) (ms := 0) (rc := 0) (rs := 0) (ci := 7) (q := 4) dX6_number_1 q1555 q1557 rfl qs45 gcX6_good mO (c_good (by unfold in32; omega)) rfl rfl ?_
      refine g_ifeqB (t := 20) (q := 7) dX6_number_4 (by decide) rfl (fun c4 => ?_) (fun c4 => ?_)
      · exact absurd z c4
      · refine g_aload_n (q := 8) dX6_number_7 rfl rfl ?_
        refine gm_get (k := 17) (q := 11) dX6_number_8 q1411 (by decide) rfl rfl ?_
        refine g_iconst (q := 12) dX6_number_11 rfl ?_
        refine g_icmp_eq (t := 20) (q := 15) dX6_number_12 (by decide) rfl (by first | assumption | exact in32_gB | exact in32_gCmp | (unfold in32; omega)) (by first | assumption | exact in32_gB | exact in32_gCmp | (unfold in32; omega)) (fun c12 => ?_) (fun c12 => ?_)
        · exact absurd c12 y
        · refine g_aload_n (q := 16) dX6_number_15 rfl rfl ?_
          refine g_iconst (q := 17) dX6_number_16 rfl ?_
          refine g_cvV (I' := iX6_errs) (mc := 0) (ms := 0) (rc := 0) (rs := 0) (ci := 7) (q := 20) dX6_number_17 q1576 q1578 rfl qs48 gcX6_errs mO (c_errs z) rfl rfl ?_
          refine g_aload_n (q := 21) dX6_number_20 rfl rfl ?_
          refine g_cv (I' := iX6_good) (mc := 0) (ms := 0) (rc := 0) (rs := 0) (ci := 7) (q := 24) dX6_number_21 q1555 q1557 rfl qs45 gcX6_good mO (c_good (by unfold in32; omega)) rfl rfl ?_
          refine g_ifeqB (t := 47) (q := 27) dX6_number_24 (by decide) rfl (fun c24 => ?_) (fun c24 => ?_)
          · refine g_aload_n (q := 48) dX6_number_47 rfl rfl ?_
            refine g_cv (I' := iX6_good) (mc := 0) (ms := 0) (rc := 0) (rs := 0) (ci := 7) (q := 51) dX6_number_48 q1555 q1557 rfl qs45 gcX6_good mO (c_good (by unfold in32; omega)) rfl rfl ?_
            refine g_ifneB (t := 56) (q := 54) dX6_number_51 (by decide) rfl (fun c51 => ?_) (fun c51 => ?_)
            · exact absurd c51 (by decide)
            · refine g_iconst (q := 55) dX6_number_54 rfl ?_
              exact g_iret dX6_number_55 rfl ⟨_, rfl, _, _, _, _, _, _, _, _, _, _, rfl, rfl, rfl⟩
          · exact absurd c24 (by decide)
  · rw [if_neg z]
    show GO E iX6_number _ _ _ 0 [some (.ref am), some (vI low), some (vI high), none] [] _ _
    refine g_aload_n (q := 1) dX6_number_0 rfl rfl ?_
    refine g_cv (I' := iX6_good) (mc := 0) (ms := 0) (rc := 0) (rs := 0) (ci := 7) (q := 4) dX6_number_1 q1555 q1557 rfl qs45 gcX6_good mO (c_good (by unfold in32; omega)) rfl rfl ?_
    refine g_ifeqB (t := 20) (q := 7) dX6_number_4 (by decide) rfl (fun c4 => ?_) (fun c4 => ?_)
    · refine g_aload_n (q := 21) dX6_number_20 rfl rfl ?_
      refine g_cv (I' := iX6_good) (mc := 0) (ms := 0) (rc := 0) (rs := 0) (ci := 7) (q := 24) dX6_number_21 q1555 q1557 rfl qs45 gcX6_good mO (c_good (by unfold in32; omega)) rfl rfl ?_
      refine g_ifeqB (t := 47) (q := 27) dX6_number_24 (by decide) rfl (fun c24 => ?_) (fun c24 => ?_)
      · refine g_aload_n (q := 48) dX6_number_47 rfl rfl ?_
        refine g_cv (I' := iX6_good) (mc := 0) (ms := 0) (rc := 0) (rs := 0) (ci := 7) (q := 51) dX6_number_48 q1555 q1557 rfl qs45 gcX6_good mO (c_good (by unfold in32; omega)) rfl rfl ?_
        refine g_ifneB (t := 56) (q := 54) dX6_number_51 (by decide) rfl (fun c51 => ?_) (fun c51 => ?_)
        · exact absurd c51 z
        · refine g_iconst (q := 55) dX6_number_54 rfl ?_
          exact g_iret dX6_number_55 rfl ⟨_, rfl, _, _, _, _, _, _, _, _, _, _, rfl, rfl, rfl⟩
      · exact absurd c24 z
    · exact absurd c4 z
theorem c_sortHere (htp : ∀ j, 0 ≤ j → j < 900 → -128 ≤ tp j ∧ tp j < 128) (hP : PSt sz (pa, fr, tk, vl, fk, fp, fsh, hdt, lt)) (hz : sz ≤ 900) : CALL E iX6_sortHere (d + 5) 0 0 [.ref am] (mH E G am th w hs si lo bk iW iH iB iL iS tp td fv sz pa fr tk vl fk fp fsh hdt lt kl kn cp cd bp bl md sw nd mn my wd nm mv) (qR (vI (srP tp (pa, fr, tk, vl, fk, fp, fsh, hdt, lt))) (mH E G am th w hs si lo bk iW iH iB iL iS tp td fv sz pa fr tk vl fk fp fsh hdt lt kl kn cp cd bp bl md sw nd mn my wd nm mv)) := by
  refine GO.ok fun ok => ?_
  unfold srP
  show GO E iX6_sortHere _ _ _ 0 [some (.ref am)] [] _ _
  refine g_aload_n (q := 1) dX6_sortHere_0 rfl rfl ?_
  refine g_ldcS (q := 3) dX6_sortHere_1 rfl q1601 (litM_next ok) rfl ?_
  refine g_cv (I' := iX6_is) (mc := 0) (ms := 0) (rc := 0) (rs := 0) (ci := 7) (q := 6) dX6_sortHere_3 q1564 q1566 rfl qs47 gcX6_is mO (c_is (d := d) (litM_next ok).2 htp hP hz) rfl rfl ?_
  refine g_ifeqB (t := 13) (q := 9) dX6_sortHere_6 (by decide) rfl (fun c6 => ?_) (fun c6 => ?_)
  · refine g_aload_n (q := 14) dX6_sortHere_13 rfl rfl ?_
    refine g_ldcS (q := 16) dX6_sortHere_14 rfl q1602 (litM_back ok) rfl ?_
    refine g_cv (I' := iX6_is) (mc := 0) (ms := 0) (rc := 0) (rs := 0) (ci := 7) (q := 19) dX6_sortHere_16 q1564 q1566 rfl qs47 gcX6_is mO (c_is (d := d) (litM_back ok).2 htp hP hz) rfl rfl ?_
    refine g_ifeqB (t := 26) (q := 22) dX6_sortHere_19 (by decide) rfl (fun c19 => ?_) (fun c19 => ?_)
    · refine g_aload_n (q := 27) dX6_sortHere_26 rfl rfl ?_
      refine g_ldcS (q := 29) dX6_sortHere_27 rfl q1603 (litM_off ok) rfl ?_
      refine g_cv (I' := iX6_is) (mc := 0) (ms := 0) (rc := 0) (rs := 0) (ci := 7) (q := 32) dX6_sortHere_29 q1564 q1566 rfl qs47 gcX6_is mO (c_is (d := d) (litM_off ok).2 htp hP hz) rfl rfl ?_
      refine g_ifeqB (t := 39) (q := 35) dX6_sortHere_32 (by decide) rfl (fun c32 => ?_) (fun c32 => ?_)
      · refine g_aload_n (q := 40) dX6_sortHere_39 rfl rfl ?_
        refine g_ldcS (q := 42) dX6_sortHere_40 rfl q1604 (litM_place ok) rfl ?_
        refine g_cv (I' := iX6_is) (mc := 0) (ms := 0) (rc := 0) (rs := 0) (ci := 7) (q := 45) dX6_sortHere_42 q1564 q1566 rfl qs47 gcX6_is mO (c_is (d := d) (litM_place ok).2 htp hP hz) rfl rfl ?_
        refine g_ifeqB (t := 52) (q := 48) dX6_sortHere_45 (by decide) rfl (fun c45 => ?_) (fun c45 => ?_)
        · refine g_iconst (q := 53) dX6_sortHere_52 rfl ?_
          exact g_iret dX6_sortHere_53 rfl ⟨rI (by first | rw [if_pos c6] | rw [if_neg c6, if_pos c19] | rw [if_neg c6, if_neg c19, if_pos c32] | rw [if_neg c6, if_neg c19, if_neg c32, if_pos c45] | rw [if_neg c6, if_neg c19, if_neg c32, if_neg c45]), rfl⟩
        · refine g_iconst (q := 49) dX6_sortHere_48 rfl ?_
          refine g_goto (t := 53) dX6_sortHere_49 (by decide) ?_
          exact g_iret dX6_sortHere_53 rfl ⟨rI (by first | rw [if_pos c6] | rw [if_neg c6, if_pos c19] | rw [if_neg c6, if_neg c19, if_pos c32] | rw [if_neg c6, if_neg c19, if_neg c32, if_pos c45] | rw [if_neg c6, if_neg c19, if_neg c32, if_neg c45]), rfl⟩
      · refine g_iconst (q := 36) dX6_sortHere_35 rfl ?_
        refine g_goto (t := 53) dX6_sortHere_36 (by decide) ?_
        exact g_iret dX6_sortHere_53 rfl ⟨rI (by first | rw [if_pos c6] | rw [if_neg c6, if_pos c19] | rw [if_neg c6, if_neg c19, if_pos c32] | rw [if_neg c6, if_neg c19, if_neg c32, if_pos c45] | rw [if_neg c6, if_neg c19, if_neg c32, if_neg c45]), rfl⟩
    · refine g_iconst (q := 23) dX6_sortHere_22 rfl ?_
      refine g_goto (t := 53) dX6_sortHere_23 (by decide) ?_
      exact g_iret dX6_sortHere_53 rfl ⟨rI (by first | rw [if_pos c6] | rw [if_neg c6, if_pos c19] | rw [if_neg c6, if_neg c19, if_pos c32] | rw [if_neg c6, if_neg c19, if_neg c32, if_pos c45] | rw [if_neg c6, if_neg c19, if_neg c32, if_neg c45]), rfl⟩
  · refine g_iconst (q := 10) dX6_sortHere_9 rfl ?_
    refine g_goto (t := 53) dX6_sortHere_10 (by decide) ?_
    exact g_iret dX6_sortHere_53 rfl ⟨rI (by first | rw [if_pos c6] | rw [if_neg c6, if_pos c19] | rw [if_neg c6, if_neg c19, if_pos c32] | rw [if_neg c6, if_neg c19, if_neg c32, if_pos c45] | rw [if_neg c6, if_neg c19, if_neg c32, if_neg c45]), rfl⟩
end
