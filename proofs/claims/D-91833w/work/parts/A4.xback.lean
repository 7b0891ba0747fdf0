/-! THE COMPONENT: back; what images differ in -/
set_option maxRecDepth 100000
section
variable {E : gE} {d rc rs x : Nat} {mf : Nat → va_E} {ow : OW} {h : gH} {w hs bk tp iL iS my wd : Int → Int} {uW uH uB uN : Int → Int → Int} {si lo td fk fp : Int}
variable {r v n B B2 kn i s l c b e m : Int} {ra t p a : Nat} {k h' : gH} {ow' : OW} {Q : Outcome → gH → Prop}
theorem XR.src (hX : (XR E x mf ow h w hs si lo bk uW uH uB iL iS tp td fk fp my wd uN)) (hk : 0 ≤ v ∧ v ≤ 2) (h0 : iS v ≠ -1) : ∃ (im : Int → Option Nat) (a t : Nat) (rr bb : Int → Nat), ow (x + 119) = 8 ∧ h.1 (x + 119) = some (aR E 10 3 im) ∧ im v = some a ∧ SRC E ow h (v.toNat + 1) a t (uW v) (uH v) (iS v) (iL v) (uB v) rr bb := by
  obtain ⟨-, -, -, -, ⟨o8, im, hIm, hI⟩, -⟩ := hX
  have hv := hI v hk.1 (by omega)
  cases e : im v with
  | none => rw [e] at hv; exact absurd hv h0
  | some a =>
    rw [e] at hv
    obtain ⟨-, t, s1, s2, ⟨rr, s3, s4⟩, ⟨bb, s5, s6⟩, s7⟩ := hv
    exact ⟨im, a, t, rr, bb, o8, hIm, e, s1, s2, s3, s4, s5, s6, s7⟩
theorem SRC.stt {q a t : Nat} {rr bb : Int → Nat} (hS : SRC E ow h q a t w hs si lo bk rr bb) : STT E ow h q a w hs si lo bk := by
  obtain ⟨s1, s2, s3, s4, s5, s6, s7⟩ := hS
  exact ⟨t, s1, s2, ⟨rr, s3, s4⟩, ⟨bb, s5, s6⟩, s7⟩
theorem XR.none (hX : (XR E x mf ow h w hs si lo bk uW uH uB iL iS tp td fk fp my wd uN)) (hk : 0 ≤ v ∧ v ≤ 2) (h0 : iS v = -1) : ∃ im : Int → Option Nat, h.1 (x + 119) = some (aR E 10 3 im) ∧ im v = Option.none := by
  obtain ⟨-, -, -, -, ⟨o8, im, hIm, hI⟩, -⟩ := hX
  refine ⟨im, hIm, ?_⟩
  have hv := hI v hk.1 (by omega)
  cases e : im v with
  | none => rfl
  | some a =>
    rw [e] at hv
    have := hv.1
    omega
theorem c_backX (hX : (XR E x mf ow h w hs si lo bk uW uH uB iL iS tp td fk fp my wd uN)) (hk : 0 ≤ v ∧ v ≤ 2) (h0 : iS v ≠ -1) (hW2 : 0 ≤ uW v 2 ∧ uW v 2 ≤ 12) (hsi : 0 ≤ iS v ∧ iS v ≤ 60) :
    CALL E iX0_back (d + 9) 72 14400 [.ref x, vI v] h (qP fun o k => o = vI 0 ∧ ∃ ow', (XR E x mf ow' k (uW v) (uH v) (iS v) (iL v) (uB v) uW uH uB iL iS tp td fk fp my wd uN)) := by
  obtain ⟨im, a, t, rr, bb, o8, hIm, e, hS⟩ := hX.src hk h0
  obtain ⟨x1, x2, ⟨w3, bl, tq, pl, bp, hC, -⟩, x4, -⟩ := id hX
  obtain ⟨t0, s1, -⟩ := id x4
  have cB := c_becomesS (d := d) (q1 := 0) (q2 := v.toNat + 1) (by omega) x4 hS.stt x1 hW2 hsi
  show GO E iX0_back _ _ _ 0 [some (.ref x), some (vI v)] [] _ _
  refine g_iload_n (q := 1) dX0_back_0 rfl rfl ?_
  refine g_i2l (q := 2) dX0_back_1 (by first | assumption | exact in32_gB | exact in32_gCmp | (unfold in32; omega)) rfl ?_
  refine g_lconst0 (q := 3) dX0_back_2 rfl ?_
  refine g_ldc2 (a := 2) (q := 6) dX0_back_3 q1187 (by decide) rfl ?_
  refine g_cs (I' := iX0_in) (mc := 0) (ms := 0) (rc := 72) (rs := 14400) (q := 9) dX0_back_6 q130 q131 gcX0_in (c_inX (by unfold in64; omega) (by unfold in64; omega) (by unfold in64; omega)) rfl rfl ?_
  refine g_ifneB (t := 15) (q := 12) dX0_back_9 (by decide) rfl (fun c9 => ?_) (fun c9 => ?_)
  · refine g_aload_n (q := 16) dX0_back_15 rfl rfl ?_
    refine g_get (C := RX0) (T := TX0) (ci := 0) (k := 2) (q := 19) dX0_back_16 q520 rfl in_X0 (by decide) hC rfl rfl ?_
    refine g_iload_n (q := 20) dX0_back_19 rfl rfl ?_
    refine g_aald (t0 := 10) (q := 21) dX0_back_20 hIm rfl rfl (by omega) (by omega) rfl ?_
    rw [e]
    refine g_ifnonnullR (t := 27) dX0_back_21 (by decide) ?_
    refine g_aload_n (q := 28) dX0_back_27 rfl rfl ?_
    refine g_get (C := RX0) (T := TX0) (ci := 0) (k := 1) (q := 31) dX0_back_28 q519 rfl in_X0 (by decide) hC rfl rfl ?_
    refine g_aload_n (q := 32) dX0_back_31 rfl rfl ?_
    refine g_get (C := RX0) (T := TX0) (ci := 0) (k := 2) (q := 35) dX0_back_32 q520 rfl in_X0 (by decide) hC rfl rfl ?_
    refine g_iload_n (q := 36) dX0_back_35 rfl rfl ?_
    refine g_aald (t0 := 10) (q := 37) dX0_back_36 hIm rfl rfl (by omega) (by omega) rfl ?_
    rw [e]
    refine g_cvVP (I' := iX1_becomes) (mc := 72) (ms := 14400) (rc := 0) (rs := 0) (ci := 1) (q := 40) dX0_back_37 q1378 q1379 rfl q1380 gcX1_becomes s1.2.1 (cB) rfl rfl (fun k37 z37 => ?_)
    obtain ⟨ow2, hS2, hh2, hF2⟩ := z37
    refine g_iconst (q := 41) dX0_back_40 rfl ?_
    exact g_iret dX0_back_41 rfl ⟨_, rfl, rfl, ow2, XR.now hX hh2 (hF2.sub (fun i q => by omega)) hS2⟩
  · exact absurd hk c9
theorem c_backNone (hX : (XR E x mf ow h w hs si lo bk uW uH uB iL iS tp td fk fp my wd uN)) (hk : 0 ≤ v ∧ v ≤ 2) (h0 : iS v = -1) : CALL E iX0_back (d + 1) 0 0 [.ref x, vI v] h (qP fun o k => o = vI (-6) ∧ (XR E x mf ow k w hs si lo bk uW uH uB iL iS tp td fk fp my wd uN)) := by
  obtain ⟨im, hIm, e⟩ := hX.none hk h0
  obtain ⟨x1, x2, ⟨w3, bl, tq, pl, bp, hC, -⟩, -⟩ := id hX
  show GO E iX0_back _ _ _ 0 [some (.ref x), some (vI v)] [] _ _
  refine g_iload_n (q := 1) dX0_back_0 rfl rfl ?_
  refine g_i2l (q := 2) dX0_back_1 (by first | assumption | exact in32_gB | exact in32_gCmp | (unfold in32; omega)) rfl ?_
  refine g_lconst0 (q := 3) dX0_back_2 rfl ?_
  refine g_ldc2 (a := 2) (q := 6) dX0_back_3 q1187 (by decide) rfl ?_
  refine g_cs (I' := iX0_in) (mc := 0) (ms := 0) (rc := 0) (rs := 0) (q := 9) dX0_back_6 q130 q131 gcX0_in (c_inX (by unfold in64; omega) (by unfold in64; omega) (by unfold in64; omega)) rfl rfl ?_
  refine g_ifneB (t := 15) (q := 12) dX0_back_9 (by decide) rfl (fun c9 => ?_) (fun c9 => ?_)
  · refine g_aload_n (q := 16) dX0_back_15 rfl rfl ?_
    refine g_get (C := RX0) (T := TX0) (ci := 0) (k := 2) (q := 19) dX0_back_16 q520 rfl in_X0 (by decide) hC rfl rfl ?_
    refine g_iload_n (q := 20) dX0_back_19 rfl rfl ?_
    refine g_aald (t0 := 10) (q := 21) dX0_back_20 hIm rfl rfl (by omega) (by omega) rfl ?_
    rw [e]
    refine g_ifnonnullN (q := 24) dX0_back_21 rfl ?_
    refine g_bipush (q := 26) dX0_back_24 rfl ?_
    exact g_iret dX0_back_26 rfl ⟨_, rfl, rfl, hX⟩
  · exact absurd hk c9
theorem c_backBad (hX : (XR E x mf ow h w hs si lo bk uW uH uB iL iS tp td fk fp my wd uN)) (hr : in32 v) (hk : ¬ (0 ≤ v ∧ v ≤ 2)) : CALL E iX0_back (d + 1) 0 0 [.ref x, vI v] h (qP fun o k => o = vI (-2) ∧ (XR E x mf ow k w hs si lo bk uW uH uB iL iS tp td fk fp my wd uN)) := by
  have q1 := hr.1
  have q2 := hr.2
  show GO E iX0_back _ _ _ 0 [some (.ref x), some (vI v)] [] _ _
  refine g_iload_n (q := 1) dX0_back_0 rfl rfl ?_
  refine g_i2l (q := 2) dX0_back_1 (by first | assumption | exact in32_gB | exact in32_gCmp | (unfold in32; omega)) rfl ?_
  refine g_lconst0 (q := 3) dX0_back_2 rfl ?_
  refine g_ldc2 (a := 2) (q := 6) dX0_back_3 q1187 (by decide) rfl ?_
  refine g_cs (I' := iX0_in) (mc := 0) (ms := 0) (rc := 0) (rs := 0) (q := 9) dX0_back_6 q130 q131 gcX0_in (c_inX (by unfold in64; omega) (by unfold in64; omega) (by unfold in64; omega)) rfl rfl ?_
  refine g_ifneB (t := 15) (q := 12) dX0_back_9 (by decide) rfl (fun c9 => ?_) (fun c9 => ?_)
  · exact absurd c9 hk
  · refine g_bipush (q := 14) dX0_back_12 rfl ?_
    exact g_iret dX0_back_14 rfl ⟨_, rfl, rfl, hX⟩
theorem ptL_skip {W H w hs : Int → Int} {kl kn b m : Int} (hw : WFw w) : ∀ (f : Nat) (r : Int), 0 ≤ r → W 2 ≤ r → r + f ≤ w 2 → ptL W H w hs kl kn f r b m = b := by
  intro f
  induction f with
  | zero => intro r _ _ _; rfl
  | succ f ih =>
    intro r h0 h1 h2
    have := hw.row h0 (show r < w 2 by omega)
    unfold ptL
    rw [if_neg (by unfold imM; rw [if_neg (by omega)]; omega)]
    exact ih (r + 1) (by omega) (by omega) (by omega)
theorem l_partsX (hk : 0 ≤ v ∧ v ≤ 2) (h0 : iS v ≠ -1) (hw : WFw w) (hh : HSok B hs) (hZ : HZ w hs) (hB0 : 0 ≤ B) (hB : B ≤ 800000000) (hkn : in32 kn) (hW : WFw (uW v)) (hHi : HSok B2 (uH v)) (hZ2 : HZ (uW v) (uH v)) (hB2 : B2 ≤ 800000000) :
    ∀ (f : Nat) (r best m most : Int) (k : gH) (x5 x6 : Option Value), 0 ≤ r → r + f = w 2 → (XR E x mf ow k w hs si lo bk uW uH uB iL iS tp td fk fp my wd uN) → (best = -1 ∧ m = -1 ∧ most = 0 ∨ 0 ≤ best ∧ m = most) → (-1 ≤ best ∧ best ≤ 12) → (0 ≤ most ∧ most ≤ 100) →
    GO E iX0_parts (d + 1305) 0 0 34 [some (.ref x), some (vI v), some (vI best), some (vI most), some (vI r), x5, x6] [] k (qP fun o k => o = vI (ptL (uW v) (uH v) w hs (-1) kn f r best m) ∧ (XR E x mf ow k w hs si lo bk uW uH uB iL iS tp td fk fp my wd uN)) := by
  intro f
  induction f with
  | zero =>
    intro r best m most k x5 x6 q0 q1 hX q2 q3 q4
    have hw2 := hw.2.1
    obtain ⟨x1, x2, ⟨w3, bl, tq, pl, bp, hC, -⟩, ⟨t0, s1, -, ⟨rr0, ⟨ar, cap, mo, g, -, hl, -⟩, -⟩, -⟩, -⟩ := id hX
    refine g_iload (q := 36) dX0_parts_34 rfl rfl ?_
    refine g_aload_n (q := 37) dX0_parts_36 rfl rfl ?_
    refine g_get (C := RX0) (T := TX0) (ci := 0) (k := 1) (q := 40) dX0_parts_37 q519 rfl in_X0 (by decide) hC rfl rfl ?_
    refine g_getN (C := RX1) (T := TX1) (ci := 1) (k := 1) (q := 43) dX0_parts_40 q480 rfl in_X1 (by decide) s1.2.1 rfl rfl ?_
    refine g_cf (I' := iJ2_size) (mc := 0) (ms := 0) (rc := 0) (rs := 0) (ci := 3) (q := 48) dX0_parts_43 q974 q711 q710 q716 q714 q712 (by decide) gcJ2_size.2.1 q715 rfl q713 gcJ2_size hl (c_lsize hl) rfl rfl ?_
    refine g_icmp_ge (t := 195) (q := 51) dX0_parts_48 (by decide) rfl (by first | assumption | exact in32_gB | exact in32_gCmp | (unfold in32; omega)) (by first | assumption | exact in32_gB | exact in32_gCmp | (unfold in32; omega)) (fun c48 => ?_) (fun c48 => ?_)
    · refine g_iload_n (q := 196) dX0_parts_195 rfl rfl ?_
      exact g_iret dX0_parts_196 rfl ⟨_, rfl, rfl, hX⟩
    · exact absurd c48 (by omega)
  | succ f ih =>
    intro r best m most k x5 x6 q0 q1 hX q2 q3 q4
    have hw2 := hw.2.1
    have hW2 := hW.2.1
    obtain ⟨x1, x2, ⟨w3, bl, tq, pl, bp, hC, -⟩, ⟨t0, s1, -, ⟨rr0, ⟨ar, cap, mo, g, -, hl, -⟩, -⟩, -⟩, -⟩ := id hX
    obtain ⟨im, a, t, rr, bb, o8, hIm, e, hS⟩ := hX.src hk h0
    obtain ⟨y1, y2, y3, y4, -⟩ := id hS
    obtain ⟨ar2, cap2, mo2, g2, -, hl2, hla2, hn2, hcap2, hg2⟩ := id y3
    by_cases cW : r < uW v 2
    · obtain ⟨-, gi, hgi, -⟩ := y4 r q0 cW
      have hrw := hw.row q0 (show r < w 2 by omega)
      have hrW := hW.row q0 cW
      have eM : imM (uW v) r = uW v (34 + 14 * r) := if_pos (by omega)
      have eN : imN (uW v) (uH v) (-1) kn r = orM (mLearns (uW v) (uH v) (-1) kn r).1 := if_pos (by omega)
      have en1 : (((w (34 + 14 * r)).toNat : Nat) : Int) = w (34 + 14 * r) := Int.toNat_of_nonneg (by omega)
      have en2 : (((uW v (34 + 14 * r)).toNat : Nat) : Int) = uW v (34 + 14 * r) := Int.toNat_of_nonneg (by omega)
      have okn := (mLearns_ok (kl := -1) (kn := kn) hw q0 (show r < w 2 by omega) hh).2
      have oki := (mLearns_ok (kl := -1) (kn := kn) hW q0 cW hHi).2
      have o1 := orM_41 okn
      have o2 := orM_41 oki
      unfold ptL
      rw [eM, eN]
      refine g_iload (q := 36) dX0_parts_34 rfl rfl ?_
      refine g_aload_n (q := 37) dX0_parts_36 rfl rfl ?_
      refine g_get (C := RX0) (T := TX0) (ci := 0) (k := 1) (q := 40) dX0_parts_37 q519 rfl in_X0 (by decide) hC rfl rfl ?_
      refine g_getN (C := RX1) (T := TX1) (ci := 1) (k := 1) (q := 43) dX0_parts_40 q480 rfl in_X1 (by decide) s1.2.1 rfl rfl ?_
      refine g_cf (I' := iJ2_size) (mc := 0) (ms := 0) (rc := 0) (rs := 0) (ci := 3) (q := 48) dX0_parts_43 q974 q711 q710 q716 q714 q712 (by decide) gcJ2_size.2.1 q715 rfl q713 gcJ2_size hl (c_lsize hl) rfl rfl ?_
      refine g_icmp_ge (t := 195) (q := 51) dX0_parts_48 (by decide) rfl (by first | assumption | exact in32_gB | exact in32_gCmp | (unfold in32; omega)) (by first | assumption | exact in32_gB | exact in32_gCmp | (unfold in32; omega)) (fun c48 => ?_) (fun c48 => ?_)
      · exact absurd c48 (by omega)
      · refine g_iload (q := 53) dX0_parts_51 rfl rfl ?_
        refine g_aload_n (q := 54) dX0_parts_53 rfl rfl ?_
        refine g_get (C := RX0) (T := TX0) (ci := 0) (k := 2) (q := 57) dX0_parts_54 q520 rfl in_X0 (by decide) hC rfl rfl ?_
        refine g_iload_n (q := 58) dX0_parts_57 rfl rfl ?_
        refine g_aald (t0 := 10) (q := 59) dX0_parts_58 hIm rfl rfl (by omega) (by omega) rfl ?_
        rw [e]
        refine g_getN (C := RX1) (T := TX1) (ci := 1) (k := 1) (q := 62) dX0_parts_59 q480 rfl in_X1 (by decide) y1.2.1 rfl rfl ?_
        refine g_cf (I' := iJ2_size) (mc := 0) (ms := 0) (rc := 0) (rs := 0) (ci := 3) (q := 67) dX0_parts_62 q974 q711 q710 q716 q714 q712 (by decide) gcJ2_size.2.1 q715 rfl q713 gcJ2_size hl2 (c_lsize hl2) rfl rfl ?_
        refine g_icmp_ge (t := 195) (q := 70) dX0_parts_67 (by decide) rfl (by first | assumption | exact in32_gB | exact in32_gCmp | (unfold in32; omega)) (by first | assumption | exact in32_gB | exact in32_gCmp | (unfold in32; omega)) (fun c67 => ?_) (fun c67 => ?_)
        · exact absurd c67 (by omega)
        · refine g_aload_n (q := 71) dX0_parts_70 rfl rfl ?_
          refine g_iload (q := 73) dX0_parts_71 rfl rfl ?_
          refine g_cvP (I' := iX0_rowAt) (mc := 0) (ms := 0) (rc := 0) (rs := 0) (ci := 0) (q := 76) dX0_parts_73 q992 q994 rfl qs28 gcX0_rowAt hC (GO.deep (c_rowAt (d := 0) hX q0 (by omega)) (by omega)) rfl rfl (fun v73 k73 z73 => ?_)
          obtain ⟨ra, rfl, hR, rfl⟩ := z73
          obtain ⟨-, g5, hg5, -⟩ := hR
          refine g_alen 0 (q := 77) dX0_parts_76 hg5 rfl rfl rfl ?_
          rw [en1]
          refine g_aload_n (q := 78) dX0_parts_77 rfl rfl ?_
          refine g_get (C := RX0) (T := TX0) (ci := 0) (k := 2) (q := 81) dX0_parts_78 q520 rfl in_X0 (by decide) hC rfl rfl ?_
          refine g_iload_n (q := 82) dX0_parts_81 rfl rfl ?_
          refine g_aald (t0 := 10) (q := 83) dX0_parts_82 hIm rfl rfl (by omega) (by omega) rfl ?_
          rw [e]
          refine g_getN (C := RX1) (T := TX1) (ci := 1) (k := 1) (q := 86) dX0_parts_83 q480 rfl in_X1 (by decide) y1.2.1 rfl rfl ?_
          refine g_iload (q := 88) dX0_parts_86 rfl rfl ?_
          refine g_cf (I' := iJ2_get) (mc := 0) (ms := 0) (rc := 0) (rs := 0) (ci := 3) (q := 93) dX0_parts_88 q997 q952 q951 q956 q954 q712 (by decide) gcJ2_get.2.1 q955 rfl q953 gcJ2_get hl2 (GO.deep (c_lget (d := 0) hl2 hla2 q0 cW hn2.2 (by omega)) (by omega)) rfl rfl ?_
          rw [hg2 r q0 cW]
          refine g_castI (q := 96) dX0_parts_93 q998 (hgi) rfl ?_
          refine g_alen 0 (q := 97) dX0_parts_96 hgi rfl rfl rfl ?_
          rw [en2]
          refine g_icmp_eq (t := 103) (q := 100) dX0_parts_97 (by decide) rfl (by first | assumption | exact in32_gB | exact in32_gCmp | (unfold in32; omega)) (by first | assumption | exact in32_gB | exact in32_gCmp | (unfold in32; omega)) (fun c97 => ?_) (fun c97 => ?_)
          · refine g_aload_n (q := 104) dX0_parts_103 rfl rfl ?_
            refine g_iload (q := 106) dX0_parts_104 rfl rfl ?_
            refine g_iconst (q := 107) dX0_parts_106 rfl ?_
            refine g_cvP (I' := iX0_needsOf) (mc := 0) (ms := 0) (rc := 0) (rs := 0) (ci := 0) (q := 110) dX0_parts_107 q1200 q1202 rfl qs33 gcX0_needsOf hC (c_needsOfX (kn := kn) hX hw hh hZ hB0 hB hkn q0 (by omega) (by omega)) rfl rfl (fun v107 k107 z107 => ?_)
            obtain ⟨rfl, hX1⟩ := z107
            rw [if_pos c97.symm]
            obtain ⟨im1, a1, t1, rr1, bb1, o81, hIm1, e1, hS1⟩ := hX1.src hk h0
            obtain ⟨u1, u2, ⟨w31, bl1, tq1, pl1, bp1, hC1, -⟩, -, -, ⟨w6, tx6, hs6, d6⟩, -⟩ := id hX1
            obtain ⟨v1, v2, v3, v4, -, -, v7⟩ := id hS1
            obtain ⟨h1', e1', t1', o1', b1', eh⟩ := d6.self
            have ha := OWN.two v7.1 w6 (by omega) (by decide) (by decide)
            have cD := c_becomesX (E := E) (d := d + 1303) (ak := akO h1' e1' t1' o1' b1') (tx := tx6) (hs := hs6) (p := x + 120) (o := a1 + 14) (G := k107) v7.2.s ha
            rw [← eh] at cD
            have hF2 : FR ow ow k107 (hH E k107 (x + 120) (some t1) (uH v) (akO h1' e1' t1' o1' b1')) (fun i => i ≠ 2) := FR.bl w6
            have hX2 := hX1.paper (tx := some t1) (hs1 := uH v) (h1 := h1') (e1 := e1') (t1 := t1') (o1 := o1') (b1 := b1')
            obtain ⟨-, hC2⟩ := hF2.at w31.1 (by decide) hC1
            obtain ⟨-, hIm2⟩ := hF2.at o81 (by decide) hIm1
            obtain ⟨f1, f2, f3, f4, -⟩ := hS1.fr hF2 (by decide) (fun i z1 z2 => by omega)
            obtain ⟨ar5, cap5, mo5, g5', -, hl5, hla5, hn5, hcap5, hg5'⟩ := f3
            obtain ⟨-, g6, hg6, -⟩ := f4 r q0 cW
            have cL := c_learnsX (E := E) (d := d) (p := x + 120) (G := k107) (t := t1) (kl := -1) (kn := kn) (h1 := h1') (e1 := e1') (t1 := t1') (o1 := o1') (b1 := b1') (wo := -1) ((v2 kn).av (w6.av (by decide))) hW hHi hZ2 (by omega) hkn q0 cW ((v4 r q0 cW).av (w6.av (by decide))) (by decide)
            rw [woW_n] at cL
            show GO E iX0_parts _ _ _ 110 _ [vI (mLearns w hs (-1) kn r).1] _ _
            refine g_cs (I' := iX0_counted) (mc := 0) (ms := 0) (rc := 0) (rs := 0) (q := 113) dX0_parts_110 q1239 q1240 gcX0_counted (GO.deep (c_counted (d := 0) (by unfold in32; omega)) (by omega)) rfl rfl ?_
            refine g_istore (q := 115) dX0_parts_113 gs5 rfl ?_
            refine g_aload_n (q := 116) dX0_parts_115 rfl rfl ?_
            refine g_get (C := RX0) (T := TX0) (ci := 0) (k := 3) (q := 119) dX0_parts_116 q521 rfl in_X0 (by decide) hC1 rfl rfl ?_
            refine g_aload_n (q := 120) dX0_parts_119 rfl rfl ?_
            refine g_get (C := RX0) (T := TX0) (ci := 0) (k := 2) (q := 123) dX0_parts_120 q520 rfl in_X0 (by decide) hC1 rfl rfl ?_
            refine g_iload_n (q := 124) dX0_parts_123 rfl rfl ?_
            refine g_aald (t0 := 10) (q := 125) dX0_parts_124 hIm1 rfl rfl (by omega) (by omega) rfl ?_
            rw [e1]
            refine g_getN (C := RX1) (T := TX1) (ci := 1) (k := 4) (q := 128) dX0_parts_125 q486 rfl in_X1 (by decide) v1.2.1 rfl rfl ?_
            refine g_cvV (I' := iX3_becomes) (mc := 0) (ms := 0) (rc := 0) (rs := 0) (ci := 4) (q := 131) dX0_parts_128 q1208 q1209 rfl q1210 gcX3_becomes d6.ob (cD) rfl rfl ?_
            refine g_iload (q := 133) dX0_parts_131 rfl rfl ?_
            refine g_aload_n (q := 134) dX0_parts_133 rfl rfl ?_
            refine g_get (C := RX0) (T := TX0) (ci := 0) (k := 3) (q := 137) dX0_parts_134 q521 rfl in_X0 (by decide) hC2 rfl rfl ?_
            refine g_aload_n (q := 138) dX0_parts_137 rfl rfl ?_
            refine g_get (C := RX0) (T := TX0) (ci := 0) (k := 2) (q := 141) dX0_parts_138 q520 rfl in_X0 (by decide) hC2 rfl rfl ?_
            refine g_iload_n (q := 142) dX0_parts_141 rfl rfl ?_
            refine g_aald (t0 := 10) (q := 143) dX0_parts_142 hIm2 rfl rfl (by omega) (by omega) rfl ?_
            rw [e1]
            refine g_getN (C := RX1) (T := TX1) (ci := 1) (k := 1) (q := 146) dX0_parts_143 q480 rfl in_X1 (by decide) f1.2.1 rfl rfl ?_
            refine g_iload (q := 148) dX0_parts_146 rfl rfl ?_
            refine g_cf (I' := iJ2_get) (mc := 0) (ms := 0) (rc := 0) (rs := 0) (ci := 3) (q := 153) dX0_parts_148 q997 q952 q951 q956 q954 q712 (by decide) gcJ2_get.2.1 q955 rfl q953 gcJ2_get hl5 (GO.deep (c_lget (d := 0) hl5 hla5 q0 cW hn5.2 (by omega)) (by omega)) rfl rfl ?_
            rw [hg5' r q0 cW]
            refine g_castI (q := 156) dX0_parts_153 q998 (hg6) rfl ?_
            refine g_iconst (q := 157) dX0_parts_156 rfl ?_
            refine g_cvP (I' := iX3_learns) (mc := 0) (ms := 0) (rc := 0) (rs := 0) (ci := 4) (q := 160) dX0_parts_157 q1136 q1137 rfl q1138 gcX3_learns hO (GO.deep cL (by omega)) rfl rfl (fun v157 k157 z157 => ?_)
            obtain ⟨rfl, hZ7, hk7⟩ := z157
            have hX7 := hX1.paperx hk7
            refine g_cs (I' := iX0_counted) (mc := 0) (ms := 0) (rc := 0) (rs := 0) (q := 163) dX0_parts_160 q1239 q1240 gcX0_counted (GO.deep (c_counted (d := 0) (by unfold in32; omega)) (by omega)) rfl rfl ?_
            refine g_isub (q := 164) dX0_parts_163 rfl ?_
            refine g_cs (I' := iJ3_abs) (mc := 0) (ms := 0) (rc := 0) (rs := 0) (q := 167) dX0_parts_164 q1367 q1368 gcJ3_abs (GO.deep (c_abs (d := 0) (by unfold in32; omega) (by omega)) (by omega)) rfl rfl ?_
            show GO E iX0_parts _ _ _ 167 _ [vI ((orM (mLearns w hs (-1) kn r).1 - orM (mLearns (uW v) (uH v) (-1) kn r).1).natAbs : Int)] _ _
            generalize eo : ((orM (mLearns w hs (-1) kn r).1 - orM (mLearns (uW v) (uH v) (-1) kn r).1).natAbs : Int) = off at *
            have ho : 0 ≤ off ∧ off ≤ 100 := by omega
            refine g_istore (q := 169) dX0_parts_167 gs6 rfl ?_
            refine g_iload_n (q := 170) dX0_parts_169 rfl rfl ?_
            refine g_iconst (q := 171) dX0_parts_170 rfl ?_
            refine g_icmp_eq (t := 183) (q := 174) dX0_parts_171 (by decide) rfl (by first | assumption | exact in32_gB | exact in32_gCmp | (unfold in32; omega)) (by first | assumption | exact in32_gB | exact in32_gCmp | (unfold in32; omega)) (fun c171 => ?_) (fun c171 => ?_)
            · refine g_iload (q := 185) dX0_parts_183 rfl rfl ?_
              refine g_istore_n (q := 186) dX0_parts_185 gs2 rfl ?_
              refine g_iload (q := 188) dX0_parts_186 rfl rfl ?_
              refine g_istore_n (q := 189) dX0_parts_188 gs3 rfl ?_
              refine g_iinc (q := 192) dX0_parts_189 rfl gs4 rfl ?_
              refine g_goto (t := 34) dX0_parts_192 (by decide) ?_
              first
              | (rw [if_neg (fun z => c97 z.symm)]; exact ih (r + 1) best m most _ _ _ (by omega) (by omega) hX q2 q3 q4)
              | (rw [if_pos (by omega)]; exact ih (r + 1) best m most _ _ _ (by omega) (by omega) hX7 q2 q3 q4)
              | (rw [if_neg (by omega)]; exact ih (r + 1) r off off _ _ _ (by omega) (by omega) hX7 (by omega) (by omega) (by omega))
            · refine g_iload (q := 176) dX0_parts_174 rfl rfl ?_
              refine g_iload_n (q := 177) dX0_parts_176 rfl rfl ?_
              refine g_icmp_gt (t := 183) (q := 180) dX0_parts_177 (by decide) rfl (by first | assumption | exact in32_gB | exact in32_gCmp | (unfold in32; omega)) (by first | assumption | exact in32_gB | exact in32_gCmp | (unfold in32; omega)) (fun c177 => ?_) (fun c177 => ?_)
              · refine g_iload (q := 185) dX0_parts_183 rfl rfl ?_
                refine g_istore_n (q := 186) dX0_parts_185 gs2 rfl ?_
                refine g_iload (q := 188) dX0_parts_186 rfl rfl ?_
                refine g_istore_n (q := 189) dX0_parts_188 gs3 rfl ?_
                refine g_iinc (q := 192) dX0_parts_189 rfl gs4 rfl ?_
                refine g_goto (t := 34) dX0_parts_192 (by decide) ?_
                first
                | (rw [if_neg (fun z => c97 z.symm)]; exact ih (r + 1) best m most _ _ _ (by omega) (by omega) hX q2 q3 q4)
                | (rw [if_pos (by omega)]; exact ih (r + 1) best m most _ _ _ (by omega) (by omega) hX7 q2 q3 q4)
                | (rw [if_neg (by omega)]; exact ih (r + 1) r off off _ _ _ (by omega) (by omega) hX7 (by omega) (by omega) (by omega))
              · refine g_goto (t := 189) dX0_parts_180 (by decide) ?_
                refine g_iinc (q := 192) dX0_parts_189 rfl gs4 rfl ?_
                refine g_goto (t := 34) dX0_parts_192 (by decide) ?_
                first
                | (rw [if_neg (fun z => c97 z.symm)]; exact ih (r + 1) best m most _ _ _ (by omega) (by omega) hX q2 q3 q4)
                | (rw [if_pos (by omega)]; exact ih (r + 1) best m most _ _ _ (by omega) (by omega) hX7 q2 q3 q4)
                | (rw [if_neg (by omega)]; exact ih (r + 1) r off off _ _ _ (by omega) (by omega) hX7 (by omega) (by omega) (by omega))
          · refine g_goto (t := 189) dX0_parts_100 (by decide) ?_
            refine g_iinc (q := 192) dX0_parts_189 rfl gs4 rfl ?_
            refine g_goto (t := 34) dX0_parts_192 (by decide) ?_
            first
            | (rw [if_neg (fun z => c97 z.symm)]; exact ih (r + 1) best m most _ _ _ (by omega) (by omega) hX q2 q3 q4)
            | (rw [if_pos (by omega)]; exact ih (r + 1) best m most _ _ _ (by omega) (by omega) hX7 q2 q3 q4)
            | (rw [if_neg (by omega)]; exact ih (r + 1) r off off _ _ _ (by omega) (by omega) hX7 (by omega) (by omega) (by omega))
    · rw [ptL_skip hw (f + 1) r q0 (by omega) (by omega)]
      refine g_iload (q := 36) dX0_parts_34 rfl rfl ?_
      refine g_aload_n (q := 37) dX0_parts_36 rfl rfl ?_
      refine g_get (C := RX0) (T := TX0) (ci := 0) (k := 1) (q := 40) dX0_parts_37 q519 rfl in_X0 (by decide) hC rfl rfl ?_
      refine g_getN (C := RX1) (T := TX1) (ci := 1) (k := 1) (q := 43) dX0_parts_40 q480 rfl in_X1 (by decide) s1.2.1 rfl rfl ?_
      refine g_cf (I' := iJ2_size) (mc := 0) (ms := 0) (rc := 0) (rs := 0) (ci := 3) (q := 48) dX0_parts_43 q974 q711 q710 q716 q714 q712 (by decide) gcJ2_size.2.1 q715 rfl q713 gcJ2_size hl (c_lsize hl) rfl rfl ?_
      refine g_icmp_ge (t := 195) (q := 51) dX0_parts_48 (by decide) rfl (by first | assumption | exact in32_gB | exact in32_gCmp | (unfold in32; omega)) (by first | assumption | exact in32_gB | exact in32_gCmp | (unfold in32; omega)) (fun c48 => ?_) (fun c48 => ?_)
      · exact absurd c48 (by omega)
      · refine g_iload (q := 53) dX0_parts_51 rfl rfl ?_
        refine g_aload_n (q := 54) dX0_parts_53 rfl rfl ?_
        refine g_get (C := RX0) (T := TX0) (ci := 0) (k := 2) (q := 57) dX0_parts_54 q520 rfl in_X0 (by decide) hC rfl rfl ?_
        refine g_iload_n (q := 58) dX0_parts_57 rfl rfl ?_
        refine g_aald (t0 := 10) (q := 59) dX0_parts_58 hIm rfl rfl (by omega) (by omega) rfl ?_
        rw [e]
        refine g_getN (C := RX1) (T := TX1) (ci := 1) (k := 1) (q := 62) dX0_parts_59 q480 rfl in_X1 (by decide) y1.2.1 rfl rfl ?_
        refine g_cf (I' := iJ2_size) (mc := 0) (ms := 0) (rc := 0) (rs := 0) (ci := 3) (q := 67) dX0_parts_62 q974 q711 q710 q716 q714 q712 (by decide) gcJ2_size.2.1 q715 rfl q713 gcJ2_size hl2 (c_lsize hl2) rfl rfl ?_
        refine g_icmp_ge (t := 195) (q := 70) dX0_parts_67 (by decide) rfl (by first | assumption | exact in32_gB | exact in32_gCmp | (unfold in32; omega)) (by first | assumption | exact in32_gB | exact in32_gCmp | (unfold in32; omega)) (fun c67 => ?_) (fun c67 => ?_)
        · refine g_iload_n (q := 196) dX0_parts_195 rfl rfl ?_
          exact g_iret dX0_parts_196 rfl ⟨_, rfl, rfl, hX⟩
        · exact absurd c67 (by omega)
theorem c_partsX (hX : (XR E x mf ow h w hs si lo bk uW uH uB iL iS tp td fk fp my wd uN)) (hk : 0 ≤ v ∧ v ≤ 2) (h0 : iS v ≠ -1) (hw : WFw w) (hh : HSok B hs) (hZ : HZ w hs) (hB0 : 0 ≤ B) (hB : B ≤ 800000000) (hkn : in32 kn) (hW : WFw (uW v)) (hHi : HSok B2 (uH v)) (hZ2 : HZ (uW v) (uH v)) (hB2 : B2 ≤ 800000000) :
    CALL E iX0_parts (d + 1305) 0 0 [.ref x, vI v] h (qP fun o k => o = vI (mParts (uW v) (uH v) w hs (-1) kn) ∧ (XR E x mf ow k w hs si lo bk uW uH uB iL iS tp td fk fp my wd uN)) := by
  obtain ⟨im, a, t, rr, bb, o8, hIm, e, hS⟩ := hX.src hk h0
  obtain ⟨x1, x2, ⟨w3, bl, tq, pl, bp, hC, -⟩, x4, -⟩ := id hX
  have hw2 := hw.2.1
  show GO E iX0_parts _ _ _ 0 [some (.ref x), some (vI v), none, none, none, none, none] [] _ _
  refine g_iload_n (q := 1) dX0_parts_0 rfl rfl ?_
  refine g_i2l (q := 2) dX0_parts_1 (by first | assumption | exact in32_gB | exact in32_gCmp | (unfold in32; omega)) rfl ?_
  refine g_lconst0 (q := 3) dX0_parts_2 rfl ?_
  refine g_ldc2 (a := 2) (q := 6) dX0_parts_3 q1187 (by decide) rfl ?_
  refine g_cs (I' := iX0_in) (mc := 0) (ms := 0) (rc := 0) (rs := 0) (q := 9) dX0_parts_6 q130 q131 gcX0_in (c_inX (by unfold in64; omega) (by unfold in64; omega) (by unfold in64; omega)) rfl rfl ?_
  refine g_ifneB (t := 15) (q := 12) dX0_parts_9 (by decide) rfl (fun c9 => ?_) (fun c9 => ?_)
  · refine g_aload_n (q := 16) dX0_parts_15 rfl rfl ?_
    refine g_get (C := RX0) (T := TX0) (ci := 0) (k := 2) (q := 19) dX0_parts_16 q520 rfl in_X0 (by decide) hC rfl rfl ?_
    refine g_iload_n (q := 20) dX0_parts_19 rfl rfl ?_
    refine g_aald (t0 := 10) (q := 21) dX0_parts_20 hIm rfl rfl (by omega) (by omega) rfl ?_
    rw [e]
    refine g_ifnonnullR (t := 27) dX0_parts_21 (by decide) ?_
    refine g_iconst (q := 28) dX0_parts_27 rfl ?_
    refine g_istore_n (q := 29) dX0_parts_28 gs2 rfl ?_
    refine g_iconst (q := 30) dX0_parts_29 rfl ?_
    refine g_istore_n (q := 31) dX0_parts_30 gs3 rfl ?_
    refine g_iconst (q := 32) dX0_parts_31 rfl ?_
    refine g_istore (q := 34) dX0_parts_32 gs4 rfl ?_
    exact l_partsX (d := d) hk h0 hw hh hZ hB0 hB hkn hW hHi hZ2 hB2 (w 2).toNat 0 (-1) (-1) 0 h _ _ (by omega) (by omega) hX (by omega) (by omega) (by omega)
  · exact absurd hk c9
theorem c_partsNone (hX : (XR E x mf ow h w hs si lo bk uW uH uB iL iS tp td fk fp my wd uN)) (hk : 0 ≤ v ∧ v ≤ 2) (h0 : iS v = -1) : CALL E iX0_parts (d + 1) 0 0 [.ref x, vI v] h (qP fun o k => o = vI (-6) ∧ (XR E x mf ow k w hs si lo bk uW uH uB iL iS tp td fk fp my wd uN)) := by
  obtain ⟨im, hIm, e⟩ := hX.none hk h0
  obtain ⟨x1, x2, ⟨w3, bl, tq, pl, bp, hC, -⟩, -⟩ := id hX
  show GO E iX0_parts _ _ _ 0 [some (.ref x), some (vI v), none, none, none, none, none] [] _ _
  refine g_iload_n (q := 1) dX0_parts_0 rfl rfl ?_
  refine g_i2l (q := 2) dX0_parts_1 (by first | assumption | exact in32_gB | exact in32_gCmp | (unfold in32; omega)) rfl ?_
  refine g_lconst0 (q := 3) dX0_parts_2 rfl ?_
  refine g_ldc2 (a := 2) (q := 6) dX0_parts_3 q1187 (by decide) rfl ?_
  refine g_cs (I' := iX0_in) (mc := 0) (ms := 0) (rc := 0) (rs := 0) (q := 9) dX0_parts_6 q130 q131 gcX0_in (c_inX (by unfold in64; omega) (by unfold in64; omega) (by unfold in64; omega)) rfl rfl ?_
  refine g_ifneB (t := 15) (q := 12) dX0_parts_9 (by decide) rfl (fun c9 => ?_) (fun c9 => ?_)
  · refine g_aload_n (q := 16) dX0_parts_15 rfl rfl ?_
    refine g_get (C := RX0) (T := TX0) (ci := 0) (k := 2) (q := 19) dX0_parts_16 q520 rfl in_X0 (by decide) hC rfl rfl ?_
    refine g_iload_n (q := 20) dX0_parts_19 rfl rfl ?_
    refine g_aald (t0 := 10) (q := 21) dX0_parts_20 hIm rfl rfl (by omega) (by omega) rfl ?_
    rw [e]
    refine g_ifnonnullN (q := 24) dX0_parts_21 rfl ?_
    refine g_bipush (q := 26) dX0_parts_24 rfl ?_
    exact g_iret dX0_parts_26 rfl ⟨_, rfl, rfl, hX⟩
  · exact absurd hk c9
theorem c_partsBad (hX : (XR E x mf ow h w hs si lo bk uW uH uB iL iS tp td fk fp my wd uN)) (hr : in32 v) (hk : ¬ (0 ≤ v ∧ v ≤ 2)) : CALL E iX0_parts (d + 1) 0 0 [.ref x, vI v] h (qP fun o k => o = vI (-2) ∧ (XR E x mf ow k w hs si lo bk uW uH uB iL iS tp td fk fp my wd uN)) := by
  have q1 := hr.1
  have q2 := hr.2
  show GO E iX0_parts _ _ _ 0 [some (.ref x), some (vI v), none, none, none, none, none] [] _ _
  refine g_iload_n (q := 1) dX0_parts_0 rfl rfl ?_
  refine g_i2l (q := 2) dX0_parts_1 (by first | assumption | exact in32_gB | exact in32_gCmp | (unfold in32; omega)) rfl ?_
  refine g_lconst0 (q := 3) dX0_parts_2 rfl ?_
  refine g_ldc2 (a := 2) (q := 6) dX0_parts_3 q1187 (by decide) rfl ?_
  refine g_cs (I' := iX0_in) (mc := 0) (ms := 0) (rc := 0) (rs := 0) (q := 9) dX0_parts_6 q130 q131 gcX0_in (c_inX (by unfold in64; omega) (by unfold in64; omega) (by unfold in64; omega)) rfl rfl ?_
  refine g_ifneB (t := 15) (q := 12) dX0_parts_9 (by decide) rfl (fun c9 => ?_) (fun c9 => ?_)
  · exact absurd c9 hk
  · refine g_bipush (q := 14) dX0_parts_12 rfl ?_
    exact g_iret dX0_parts_14 rfl ⟨_, rfl, rfl, hX⟩
end
