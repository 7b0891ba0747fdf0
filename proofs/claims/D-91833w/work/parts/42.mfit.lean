/-! THE REFERENCE: clearHead, forget -/
set_option maxRecDepth 100000
def fgtL (hs : Int → Int) : Nat → Int → Int → Int
  | 0, _, n => n
  | f + 1, s, n => fgtL hs f (s + 1) (n + mLinks hs s)
section
variable {E : gE} {d rc rs am : Nat} {G : gH}
variable {th si lo td sz pa fr tk vl fk fp hdt kl kn cd bp bl : Int} {w hs bk iW iH iB iL iS tp fv fsh lt cp md sw nd mn my wd nm mv : Int → Int}
variable {s a b r r2 i k v e B c n l left days dg : Int} {Q : Outcome → gH → Prop}
theorem c_clearHead : CALL E iX6_clearHead d 0 0 [.ref am] (mH E G am th w hs si lo bk iW iH iB iL iS tp td fv sz pa fr tk vl fk fp fsh hdt lt kl kn cp cd bp bl md sw nd mn my wd nm mv) (qV (mH E G am th w (fun _ => 0) si lo bk iW iH iB iL iS tp td fv sz pa fr tk vl fk fp fsh hdt lt kl kn cp cd bp bl md sw nd mn my wd nm mv)) := by
  have loop : ∀ (f : Nat) (i : Int), 0 ≤ i → i + f = 2018 → GO E iX6_clearHead d 0 0 2 [some (.ref am), some (vI i)] [] (mH E G am th w (cpyI hs (fun _ => 0) 0 0 i) si lo bk iW iH iB iL iS tp td fv sz pa fr tk vl fk fp fsh hdt lt kl kn cp cd bp bl md sw nd mn my wd nm mv) (qV (mH E G am th w (cpyI hs (fun _ => 0) 0 0 2018) si lo bk iW iH iB iL iS tp td fv sz pa fr tk vl fk fp fsh hdt lt kl kn cp cd bp bl md sw nd mn my wd nm mv)) := by
    intro f
    induction f with
    | zero =>
      intro i h2 h3
      obtain rfl : i = 2018 := by omega
      refine g_iload_n (q := 3) dX6_clearHead_2 rfl rfl ?_
      refine g_sipush (q := 6) dX6_clearHead_3 rfl ?_
      refine g_icmp_ge (t := 22) (q := 9) dX6_clearHead_6 (by decide) rfl (by first | assumption | exact in32_gB | exact in32_gCmp | (unfold in32; omega)) (by first | assumption | exact in32_gB | exact in32_gCmp | (unfold in32; omega)) (fun c6 => ?_) (fun c6 => ?_)
      · exact g_vret dX6_clearHead_22 rfl ⟨rfl, rfl⟩
      · exact absurd c6 (by decide)
    | succ f ih =>
      intro i h2 h3
      have e3 := cpyI_s (dst := hs) (src := fun _ => 0) (dO := 0) (sO := 0) h2
      rw [Int.zero_add] at e3
      refine g_iload_n (q := 3) dX6_clearHead_2 rfl rfl ?_
      refine g_sipush (q := 6) dX6_clearHead_3 rfl ?_
      refine g_icmp_ge (t := 22) (q := 9) dX6_clearHead_6 (by decide) rfl (by first | assumption | exact in32_gB | exact in32_gCmp | (unfold in32; omega)) (by first | assumption | exact in32_gB | exact in32_gCmp | (unfold in32; omega)) (fun c6 => ?_) (fun c6 => ?_)
      · exact absurd c6 (by omega)
      · refine g_aload_n (q := 10) dX6_clearHead_9 rfl rfl ?_
        refine gm_get (k := 2) (q := 13) dX6_clearHead_10 q1396 (by decide) rfl rfl ?_
        refine g_iload_n (q := 14) dX6_clearHead_13 rfl rfl ?_
        refine g_iconst (q := 15) dX6_clearHead_14 rfl ?_
        refine gm_st2 (q := 16) dX6_clearHead_15 (by omega) (by omega)  rfl ?_
        rw [e3]
        refine g_iinc (q := 19) dX6_clearHead_16 rfl gs1 rfl ?_
        refine g_goto (t := 2) dX6_clearHead_19 (by decide) ?_
        exact ih _ (by omega) (by omega)
  have all : CALL E iX6_clearHead d 0 0 [.ref am] (mH E G am th w hs si lo bk iW iH iB iL iS tp td fv sz pa fr tk vl fk fp fsh hdt lt kl kn cp cd bp bl md sw nd mn my wd nm mv) (qV (mH E G am th w (cpyI hs (fun _ => 0) 0 0 2018) si lo bk iW iH iB iL iS tp td fv sz pa fr tk vl fk fp fsh hdt lt kl kn cp cd bp bl md sw nd mn my wd nm mv)) := by
    show GO E iX6_clearHead _ _ _ 0 [some (.ref am), none] [] _ _
    refine g_iconst (q := 1) dX6_clearHead_0 rfl ?_
    refine g_istore_n (q := 2) dX6_clearHead_1 gs1 rfl ?_
    have := loop 2018 0 (by omega) (by omega)
    rw [cpyI_0] at this
    exact this
  refine GO.monox all fun o k hq => ⟨_, ⟨hq.1, rfl⟩, fun H hR => ?_⟩
  rw [hq.2] at hR
  exact mX2 (fun j h2 h3 => cpyI_in h2 (by omega)) H hR
theorem c_forget (hh : HSok B hs) : CALL E iX6_forget (d + 1) 0 0 [.ref am] (mH E G am th w hs si lo bk iW iH iB iL iS tp td fv sz pa fr tk vl fk fp fsh hdt lt kl kn cp cd bp bl md sw nd mn my wd nm mv) (qR (vI (fgtL hs 4 0 0)) (mH E G am th w (fun _ => 0) 0 0 bk iW iH iB iL iS tp td fv sz pa fr tk vl fk fp fsh hdt lt kl kn cp cd bp bl md sw nd mn my wd nm mv)) := by
  have loop : ∀ (f : Nat) (s n : Int), 0 ≤ s → s + f = 4 → GO E iX6_forget (d + 1) 0 0 4 [some (.ref am), some (vI n), some (vI s)] [] (mH E G am th w hs si lo bk iW iH iB iL iS tp td fv sz pa fr tk vl fk fp fsh hdt lt kl kn cp cd bp bl md sw nd mn my wd nm mv) (qR (vI (fgtL hs f s n)) (mH E G am th w (fun _ => 0) 0 0 bk iW iH iB iL iS tp td fv sz pa fr tk vl fk fp fsh hdt lt kl kn cp cd bp bl md sw nd mn my wd nm mv)) := by
    intro f
    induction f with
    | zero =>
      intro s n h0 h1
      refine g_iload_n (q := 5) dX6_forget_4 rfl rfl ?_
      refine g_iconst (q := 6) dX6_forget_5 rfl ?_
      refine g_icmp_ge (t := 23) (q := 9) dX6_forget_6 (by decide) rfl (by first | assumption | exact in32_gB | exact in32_gCmp | (unfold in32; omega)) (by first | assumption | exact in32_gB | exact in32_gCmp | (unfold in32; omega)) (fun c6 => ?_) (fun c6 => ?_)
      · refine g_aload_n (q := 24) dX6_forget_23 rfl rfl ?_
        refine g_cvV (I' := iX6_clearHead) (mc := 0) (ms := 0) (rc := 0) (rs := 0) (ci := 7) (q := 27) dX6_forget_24 q1622 q1624 rfl qs56 gcX6_clearHead mO (c_clearHead) rfl rfl ?_
        refine g_aload_n (q := 28) dX6_forget_27 rfl rfl ?_
        refine g_iconst (q := 29) dX6_forget_28 rfl ?_
        refine gm_put3 (q := 32) dX6_forget_29 q1397 rfl ?_
        refine g_aload_n (q := 33) dX6_forget_32 rfl rfl ?_
        refine g_iconst (q := 34) dX6_forget_33 rfl ?_
        refine gm_put4 (q := 37) dX6_forget_34 q1398 rfl ?_
        refine g_iload_n (q := 38) dX6_forget_37 rfl rfl ?_
        exact g_iret dX6_forget_38 rfl ⟨rfl, rfl⟩
      · exact absurd c6 (by omega)
    | succ f ih =>
      intro s n h0 h1
      refine g_iload_n (q := 5) dX6_forget_4 rfl rfl ?_
      refine g_iconst (q := 6) dX6_forget_5 rfl ?_
      refine g_icmp_ge (t := 23) (q := 9) dX6_forget_6 (by decide) rfl (by first | assumption | exact in32_gB | exact in32_gCmp | (unfold in32; omega)) (by first | assumption | exact in32_gB | exact in32_gCmp | (unfold in32; omega)) (fun c6 => ?_) (fun c6 => ?_)
      · exact absurd c6 (by omega)
      · refine g_iload_n (q := 10) dX6_forget_9 rfl rfl ?_
        refine g_aload_n (q := 11) dX6_forget_10 rfl rfl ?_
        refine g_iload_n (q := 12) dX6_forget_11 rfl rfl ?_
        refine g_cv (I' := iX6_linksOf) (mc := 0) (ms := 0) (rc := 0) (rs := 0) (ci := 7) (q := 15) dX6_forget_12 q1726 q1728 rfl qs72 gcX6_linksOf mO (c_linksOf hh (by omega) (by omega)) rfl rfl ?_
        refine g_iadd (q := 16) dX6_forget_15 rfl ?_
        refine g_istore_n (q := 17) dX6_forget_16 gs1 rfl ?_
        refine g_iinc (q := 20) dX6_forget_17 rfl gs2 rfl ?_
        refine g_goto (t := 4) dX6_forget_20 (by decide) ?_
        exact ih _ _ (by omega) (by omega)
  show GO E iX6_forget _ _ _ 0 [some (.ref am), none, none] [] _ _
  refine g_iconst (q := 1) dX6_forget_0 rfl ?_
  refine g_istore_n (q := 2) dX6_forget_1 gs1 rfl ?_
  refine g_iconst (q := 3) dX6_forget_2 rfl ?_
  refine g_istore_n (q := 4) dX6_forget_3 gs2 rfl ?_
  exact loop 4 0 0 (by omega) (by omega)
end
