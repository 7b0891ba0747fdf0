/-! THE COMPONENT: support, slips -/
set_option maxRecDepth 100000
/-- the world without a sort's lean -/
def woW (w : Int → Int) (wo : Int) : Int → Int := if 0 ≤ wo then upI w (5 + wo) 0 else w
theorem woW_e {w : Int → Int} {wo x : Int} (h : -1 ≤ wo ∧ wo ≤ 3) (hx : x < 5 ∨ 9 ≤ x) : woW w wo x = w x := by
  unfold woW
  split
  · exact upI_ne (by omega)
  · rfl
theorem woW_lean {w : Int → Int} {wo s : Int} (h : -1 ≤ wo ∧ wo ≤ 3) (hs : 0 ≤ s ∧ s ≤ 3) : (s = wo → woW w wo (5 + s) = 0) ∧ (s ≠ wo → woW w wo (5 + s) = w (5 + s)) := by
  unfold woW
  refine ⟨fun e => ?_, fun e => ?_⟩
  · subst e; rw [if_pos hs.1, upI_at]
  · split
    · exact upI_ne (by omega)
    · rfl
theorem WFw.wo {w : Int → Int} {wo : Int} (h : WFw w) (hw : -1 ≤ wo ∧ wo ≤ 3) : WFw (woW w wo) := by
  obtain ⟨a1, a2, a3, a4, a5, a6, a7, a8, a9⟩ := h
  have e : ∀ x, (x < 5 ∨ 9 ≤ x) → woW w wo x = w x := fun x hx => woW_e hw hx
  refine ⟨?_, ?_, ?_, ?_, ?_, ?_, ?_, ?_, ?_⟩
  · rw [e 1 (by omega)]; exact a1
  · rw [e 2 (by omega)]; exact a2
  · rw [e 3 (by omega)]; exact a3
  · rw [e 4 (by omega)]; exact a4
  · intro s q1 q2
    by_cases c : s = wo
    · rw [(woW_lean hw (by omega)).1 c]; omega
    · rw [(woW_lean hw (by omega)).2 c]; exact a5 s q1 q2
  · intro t q1 q2; rw [e _ (by omega)]; exact a6 t q1 q2
  · intro x q1 q2
    rw [e 2 (by omega)] at q2
    obtain ⟨p1, p2⟩ := a7 x q1 q2
    rw [e (34 + 14 * x) (by omega), e 1 (by omega)]
    refine ⟨p1, fun i i1 i2 => ?_⟩
    rw [e _ (by omega)]
    exact p2 i i1 i2
  · intro l q1 q2; rw [e _ (by omega), e _ (by omega)]; exact a8 l q1 q2
  · intro k q1 q2; rw [e _ (by omega), e _ (by omega), e _ (by omega)]; exact a9 k q1 q2
def supL (W hs : Int → Int) (A T : Int) : Nat → Int → Int → Int
  | 0, _, z => z
  | f + 1, s, z => supL W hs A T f (s + 1) (z + W (5 + s) * hs (lkA s A T))
section
variable {E : gE} {d p t ra : Nat} {G : gH} {hs w g : Int → Int} {kl kn v s a b c wo B h1 e1 t1 o1 b1 r i : Int} {Q : Outcome → gH → Prop}
theorem c_supportX (hT : TXT E (avH p) G.1 w kl kn t) (hw : WFw w) (hh : HSok B hs) (hr : 0 ≤ r) (hr1 : r < w 2) (hR : ROWc E (avH p) G.1 w r ra) (hi : 0 ≤ i) (hi1 : i < w (34 + 14 * r)) (hwo : -1 ≤ wo ∧ wo ≤ 3) :
    CALL E iX3_support d 0 0 [.ref p, .ref ra, vI i, vI wo] (hH E G p (some t) hs (akO h1 e1 t1 o1 b1)) (qR (vI (mSup (woW w wo) hs r i)) (hH E G p (some t) hs (akO h1 e1 t1 o1 b1))) := by
  have hw1 := hw.1
  have hrw := hw.row hr hr1
  have hW := hw.wo hwo
  have e2 : woW w wo 2 = w 2 := woW_e hwo (by omega)
  have en2 : woW w wo (34 + 14 * r) = w (34 + 14 * r) := woW_e hwo (by omega)
  have hin := mSum_in hW hh hr (by rw [e2]; exact hr1) hi (by rw [en2]; exact hi1)
  obtain ⟨te, tl, tw, tz, tw2, lw, ge, gl, hd, ⟨n1, n2, n3, n4, n5⟩, ct, cte, ⟨ctl, hgl⟩, ctw, ctw2, hl, hij⟩ := hT
  have ot : ∀ b : Nat, ¬ avH p b → (hH E G p (some t) hs (akO h1 e1 t1 o1 b1)).1 b = G.1 b := fun b hb => blk_out (by unfold avH at hb; omega)
  obtain ⟨hra, g, hrc, hg⟩ := hR
  have orr := (ot ra hra).trans hrc
  have hti : 0 ≤ thg w r i ∧ thg w r i < w 1 := hw.thing hr hr1 hi hi1
  have egi : g i = thg w r i := hg i hi hi1
  have eT : thg (woW w wo) r i = thg w r i := woW_e hwo (by omega)
  have eA : thg (woW w wo) r (i - 1) = thg w r (i - 1) := woW_e hwo (by omega)
  have hx3 : xl hs 3 (thg w r i) i = hs (lkA 3 (thg w r i) i) := xl_in hi (by rw [if_pos rfl]; omega)
  have fin : ∀ (z : Int) (x5 : Option Value), z = mSum (woW w wo) hs r i → GO E iX3_support d 0 0 91 [some (.ref p), some (.ref ra), some (vI i), some (vI wo), some (vI z), x5] [] (hH E G p (some t) hs (akO h1 e1 t1 o1 b1)) (qR (vI (mSup (woW w wo) hs r i)) (hH E G p (some t) hs (akO h1 e1 t1 o1 b1))) := by
    intro z x5 e
    rw [e]
    refine g_iload (q := 93) dX3_support_91 rfl rfl ?_
    refine g_bipush (q := 95) dX3_support_93 rfl ?_
    refine g_idiv (q := 96) dX3_support_95 (by first | assumption | exact in32_gB | exact in32_gCmp | (unfold in32; omega)) (by first | assumption | exact in32_gB | exact in32_gCmp | (unfold in32; omega)) (by omega) rfl ?_
    exact g_iret dX3_support_96 rfl ⟨rfl, rfl⟩
  have loop : 0 < i → ∀ (f : Nat) (s z : Int) , 0 ≤ s → s + f = 3 → supL (woW w wo) hs (thg w r (i - 1)) (thg w r i) f s z = mSum (woW w wo) hs r i → GO E iX3_support d 0 0 36 [some (.ref p), some (.ref ra), some (vI i), some (vI wo), some (vI z), some (vI s)] [] (hH E G p (some t) hs (akO h1 e1 t1 o1 b1)) (qR (vI (mSup (woW w wo) hs r i)) (hH E G p (some t) hs (akO h1 e1 t1 o1 b1))) := by
    intro i0
    have hta : 0 ≤ thg w r (i - 1) ∧ thg w r (i - 1) < w 1 := hw.thing hr hr1 (show 0 ≤ i - 1 by omega) (show i - 1 < w (34 + 14 * r) by omega)
    have ega : g (i - 1) = thg w r (i - 1) := hg (i - 1) (by omega) (by omega)
    intro f
    induction f with
    | zero =>
      intro s z q1 q2 q3
      refine g_iload (q := 38) dX3_support_36 rfl rfl ?_
      refine g_iconst (q := 39) dX3_support_38 rfl ?_
      refine g_icmp_gt (t := 91) (q := 42) dX3_support_39 (by decide) rfl (by first | assumption | exact in32_gB | exact in32_gCmp | (unfold in32; omega)) (by first | assumption | exact in32_gB | exact in32_gCmp | (unfold in32; omega)) (fun c39 => ?_) (fun c39 => ?_)
      · exact fin _ _ q3
      · exact absurd c39 (by omega)
    | succ f ih =>
      intro s z q1 q2 q3
      have hxs : xl hs s (thg w r (i - 1)) (thg w r i) = hs (lkA s (thg w r (i - 1)) (thg w r i)) := xl_in hti.1 (by rw [if_neg (by omega)]; omega)
      have egl := hgl s (by omega) (by omega)
      replace q3 : supL (woW w wo) hs (thg w r (i - 1)) (thg w r i) f (s + 1) (z + woW w wo (5 + s) * hs (lkA s (thg w r (i - 1)) (thg w r i))) = mSum (woW w wo) hs r i := q3
      by_cases c : s = wo
      · rw [(woW_lean hwo (by omega)).1 c, Int.zero_mul, Int.add_zero] at q3
        refine g_iload (q := 38) dX3_support_36 rfl rfl ?_
        refine g_iconst (q := 39) dX3_support_38 rfl ?_
        refine g_icmp_gt (t := 91) (q := 42) dX3_support_39 (by decide) rfl (by first | assumption | exact in32_gB | exact in32_gCmp | (unfold in32; omega)) (by first | assumption | exact in32_gB | exact in32_gCmp | (unfold in32; omega)) (fun c39 => ?_) (fun c39 => ?_)
        · exact absurd c39 (by omega)
        · refine g_iload_n (q := 43) dX3_support_42 rfl rfl ?_
          refine g_if_le (t := 91) (q := 46) dX3_support_43 (by decide) rfl (by first | assumption | exact in32_gB | exact in32_gCmp | (unfold in32; omega)) (fun c43 => ?_) (fun c43 => ?_)
          · exact absurd c43 (by omega)
          · refine g_iload (q := 48) dX3_support_46 rfl rfl ?_
            refine g_iload_n (q := 49) dX3_support_48 rfl rfl ?_
            refine g_icmp_eq (t := 85) (q := 52) dX3_support_49 (by decide) rfl (by first | assumption | exact in32_gB | exact in32_gCmp | (unfold in32; omega)) (by first | assumption | exact in32_gB | exact in32_gCmp | (unfold in32; omega)) (fun c49 => ?_) (fun c49 => ?_)
            · refine g_iinc (q := 88) dX3_support_85 rfl gs5 rfl ?_
              refine g_goto (t := 36) dX3_support_88 (by decide) ?_
              exact ih _ _ (by omega) (by omega) q3
            · exact absurd c c49
      · rw [(woW_lean hwo (by omega)).2 c] at q3
        refine g_iload (q := 38) dX3_support_36 rfl rfl ?_
        refine g_iconst (q := 39) dX3_support_38 rfl ?_
        refine g_icmp_gt (t := 91) (q := 42) dX3_support_39 (by decide) rfl (by first | assumption | exact in32_gB | exact in32_gCmp | (unfold in32; omega)) (by first | assumption | exact in32_gB | exact in32_gCmp | (unfold in32; omega)) (fun c39 => ?_) (fun c39 => ?_)
        · exact absurd c39 (by omega)
        · refine g_iload_n (q := 43) dX3_support_42 rfl rfl ?_
          refine g_if_le (t := 91) (q := 46) dX3_support_43 (by decide) rfl (by first | assumption | exact in32_gB | exact in32_gCmp | (unfold in32; omega)) (fun c43 => ?_) (fun c43 => ?_)
          · exact absurd c43 (by omega)
          · refine g_iload (q := 48) dX3_support_46 rfl rfl ?_
            refine g_iload_n (q := 49) dX3_support_48 rfl rfl ?_
            refine g_icmp_eq (t := 85) (q := 52) dX3_support_49 (by decide) rfl (by first | assumption | exact in32_gB | exact in32_gCmp | (unfold in32; omega)) (by first | assumption | exact in32_gB | exact in32_gCmp | (unfold in32; omega)) (fun c49 => ?_) (fun c49 => ?_)
            · exact absurd c49 c
            · refine g_iload (q := 54) dX3_support_52 rfl rfl ?_
              refine g_aload_n (q := 55) dX3_support_54 rfl rfl ?_
              refine g_get (C := RX3) (T := TX3) (ci := 4) (k := 2) (q := 58) dX3_support_55 q453 rfl in_X3 (by decide) hO rfl rfl ?_
              refine g_getN (C := RX2) (T := TX2) (ci := 2) (k := 1) (q := 61) dX3_support_58 q350 rfl in_X2 (by decide) ((ot _ n1).trans ct) rfl rfl ?_
              refine g_iload (q := 63) dX3_support_61 rfl rfl ?_
              refine g_iald (q := 64) dX3_support_63 ((ot _ n3).trans ctl) (by omega) (by omega) rfl ?_
              rw [egl]
              refine g_aload_n (q := 65) dX3_support_64 rfl rfl ?_
              refine g_get (C := RX3) (T := TX3) (ci := 4) (k := 0) (q := 68) dX3_support_65 q450 rfl in_X3 (by decide) hO rfl rfl ?_
              refine g_iload (q := 70) dX3_support_68 rfl rfl ?_
              refine g_aald (t0 := 6) (q := 71) dX3_support_70 hL rfl rfl (by omega) (by omega) rfl ?_
              refine g_aload_n (q := 72) dX3_support_71 rfl rfl ?_
              refine g_iload_n (q := 73) dX3_support_72 rfl rfl ?_
              refine g_iconst (q := 74) dX3_support_73 rfl ?_
              refine g_isub (q := 75) dX3_support_74 rfl ?_
              refine g_iald (q := 76) dX3_support_75 orr (by omega) (by omega) rfl ?_
              rw [ega]
              refine g_aald (t0 := 5) (q := 77) dX3_support_76 (hM (by omega) (by omega)) rfl rfl (by omega) (by omega) rfl ?_
              refine g_aload_n (q := 78) dX3_support_77 rfl rfl ?_
              refine g_iload_n (q := 79) dX3_support_78 rfl rfl ?_
              refine g_iald (q := 80) dX3_support_79 orr (by omega) (by omega) rfl ?_
              rw [egi]
              refine g_iald (q := 81) dX3_support_80 (hI (by omega) (by omega) (by omega) (by omega)) (by omega) (by omega) rfl ?_
              rw [hxs]
              refine g_imul (q := 82) dX3_support_81 rfl ?_
              refine g_iadd (q := 83) dX3_support_82 rfl ?_
              refine g_istore (q := 85) dX3_support_83 gs4 rfl ?_
              refine g_iinc (q := 88) dX3_support_85 rfl gs5 rfl ?_
              refine g_goto (t := 36) dX3_support_88 (by decide) ?_
              exact ih _ _ (by omega) (by omega) q3
  have k31 : GO E iX3_support d 0 0 31 [some (.ref p), some (.ref ra), some (vI i), some (vI wo), none, none] [vI (woW w wo 8 * hs (lkA 3 (thg w r i) i))] (hH E G p (some t) hs (akO h1 e1 t1 o1 b1)) (qR (vI (mSup (woW w wo) hs r i)) (hH E G p (some t) hs (akO h1 e1 t1 o1 b1))) := by
    by_cases i0 : 0 < i
    · refine g_istore (q := 33) dX3_support_31 gs4 rfl ?_
      refine g_iconst (q := 34) dX3_support_33 rfl ?_
      refine g_istore (q := 36) dX3_support_34 gs5 rfl ?_
      exact loop i0 3 0 _ (by omega) (by omega) (by unfold mSum; rw [if_pos i0, eT, eA]; rfl)
    · refine g_istore (q := 33) dX3_support_31 gs4 rfl ?_
      refine g_iconst (q := 34) dX3_support_33 rfl ?_
      refine g_istore (q := 36) dX3_support_34 gs5 rfl ?_
      refine g_iload (q := 38) dX3_support_36 rfl rfl ?_
      refine g_iconst (q := 39) dX3_support_38 rfl ?_
      refine g_icmp_gt (t := 91) (q := 42) dX3_support_39 (by decide) rfl (by first | assumption | exact in32_gB | exact in32_gCmp | (unfold in32; omega)) (by first | assumption | exact in32_gB | exact in32_gCmp | (unfold in32; omega)) (fun c39 => absurd c39 (by decide)) (fun c39 => ?_)
      refine g_iload_n (q := 43) dX3_support_42 rfl rfl ?_
      refine g_if_le (t := 91) (q := 46) dX3_support_43 (by decide) rfl (by first | assumption | exact in32_gB | exact in32_gCmp | (unfold in32; omega)) (fun c43 => ?_) (fun c43 => ?_)
      · exact fin _ _ (by unfold mSum; rw [if_neg i0, eT])
      · exact absurd c43 i0
  by_cases c3 : wo = 3
  · have e8 : woW w wo 8 = 0 := (woW_lean (s := 3) hwo (by omega)).1 c3.symm
    rw [e8, Int.zero_mul] at k31
    show GO E iX3_support _ _ _ 0 [some (.ref p), some (.ref ra), some (vI i), some (vI wo), none, none] [] _ _
    refine g_iload_n (q := 1) dX3_support_0 rfl rfl ?_
    refine g_iconst (q := 2) dX3_support_1 rfl ?_
    refine g_icmp_ne (t := 9) (q := 5) dX3_support_2 (by decide) rfl (by first | assumption | exact in32_gB | exact in32_gCmp | (unfold in32; omega)) (by first | assumption | exact in32_gB | exact in32_gCmp | (unfold in32; omega)) (fun c2 => ?_) (fun c2 => ?_)
    · exact absurd c3 c2
    · refine g_iconst (q := 6) dX3_support_5 rfl ?_
      refine g_goto (t := 31) dX3_support_6 (by decide) ?_
      exact k31
  · have e8 : woW w wo 8 = w (5 + 3) := (woW_lean (s := 3) hwo (by omega)).2 (fun q => c3 q.symm)
    have egl := hgl 3 (by omega) (by omega)
    rw [e8] at k31
    show GO E iX3_support _ _ _ 0 [some (.ref p), some (.ref ra), some (vI i), some (vI wo), none, none] [] _ _
    refine g_iload_n (q := 1) dX3_support_0 rfl rfl ?_
    refine g_iconst (q := 2) dX3_support_1 rfl ?_
    refine g_icmp_ne (t := 9) (q := 5) dX3_support_2 (by decide) rfl (by first | assumption | exact in32_gB | exact in32_gCmp | (unfold in32; omega)) (by first | assumption | exact in32_gB | exact in32_gCmp | (unfold in32; omega)) (fun c2 => ?_) (fun c2 => ?_)
    · refine g_aload_n (q := 10) dX3_support_9 rfl rfl ?_
      refine g_get (C := RX3) (T := TX3) (ci := 4) (k := 2) (q := 13) dX3_support_10 q453 rfl in_X3 (by decide) hO rfl rfl ?_
      refine g_getN (C := RX2) (T := TX2) (ci := 2) (k := 1) (q := 16) dX3_support_13 q350 rfl in_X2 (by decide) ((ot _ n1).trans ct) rfl rfl ?_
      refine g_iconst (q := 17) dX3_support_16 rfl ?_
      refine g_iald (q := 18) dX3_support_17 ((ot _ n3).trans ctl) (by omega) (by omega) rfl ?_
      rw [egl]
      refine g_aload_n (q := 19) dX3_support_18 rfl rfl ?_
      refine g_get (C := RX3) (T := TX3) (ci := 4) (k := 0) (q := 22) dX3_support_19 q450 rfl in_X3 (by decide) hO rfl rfl ?_
      refine g_iconst (q := 23) dX3_support_22 rfl ?_
      refine g_aald (t0 := 6) (q := 24) dX3_support_23 hL rfl rfl (by omega) (by omega) rfl ?_
      refine g_aload_n (q := 25) dX3_support_24 rfl rfl ?_
      refine g_iload_n (q := 26) dX3_support_25 rfl rfl ?_
      refine g_iald (q := 27) dX3_support_26 orr (by omega) (by omega) rfl ?_
      rw [egi]
      refine g_aald (t0 := 5) (q := 28) dX3_support_27 (hM (s := 3) (by omega) (by omega)) rfl rfl (by omega) (by omega) rfl ?_
      refine g_iload_n (q := 29) dX3_support_28 rfl rfl ?_
      refine g_iald (q := 30) dX3_support_29 (hI (s := 3) (by omega) (by omega) (by omega) (by omega)) (by omega) (by omega) rfl ?_
      rw [hx3]
      refine g_imul (q := 31) dX3_support_30 rfl ?_
      exact k31
    · exact absurd c2 c3
end
