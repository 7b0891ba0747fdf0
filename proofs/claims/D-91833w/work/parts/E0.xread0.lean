/-! THE COMPONENT: the Reader's tokens -/
set_option maxRecDepth 100000
/-- the Reader: its rows of words, tape, text, list, size; at, from, token, place, value -/
def rdC (so la ak ta tx rl : Nat) (sz a f t p v : Int) : va_E := oB 8 [.ref so, .ref la, .ref ak, .ref ta, vI sz, .ref tx, .ref rl, vI a, vI f, vI t, vI p, vI v]
/-- the Reader's value -/
def vX (P : PS) : Int := if P.2.2.1 = 2 then min 9999 P.2.2.2.1 else 0
abbrev rdO (so la ak ta tx rl : Nat) (sz : Int) (P : PS) : va_E := rdC so la ak ta tx rl sz P.1 P.2.1 P.2.2.1 P.2.1 (vX P)
/-- a tape's bytes -/
def TPok (tp : Int → Int) : Prop := ∀ j, 0 ≤ j → j < 900 → -128 ≤ tp j ∧ tp j < 128
section
variable {E : gE} {d r so la ak ta tx rl : Nat} {h : gH} {tp tq : Int → Int} {sz a f t p v lw hi : Int} {Q : Outcome → gH → Prop}
theorem see_tq {k : Int} (h1 : k < sz) (e : tq k = tp k) : seeV tp sz k = tq k % 256 := by unfold seeV; rw [if_pos h1, e]
theorem c_isAt (hta : (hset h r (rdC so la ak ta tx rl sz a f t p v)).1 ta = some (aB E 900 tq)) (htq : ∀ j, 0 ≤ j → j < 900 → tq j = tp j) (hT : TPok tp) (ha : 0 ≤ a ∧ a ≤ sz) (hz : sz ≤ 900) (hl : 0 ≤ lw ∧ lw ≤ 127) (hh : 0 ≤ hi ∧ hi ≤ 127) : CALL E iX7_isAt d 0 0 [.ref r, vI lw, vI hi] (hset h r (rdC so la ak ta tx rl sz a f t p v)) (qR (vI (gB (lw ≤ seeV tp sz a ∧ seeV tp sz a ≤ hi))) (hset h r (rdC so la ak ta tx rl sz a f t p v))) := by
  have hr : (hset h r (rdC so la ak ta tx rl sz a f t p v)).1 r = some (oB 8 [.ref so, .ref la, .ref ak, .ref ta, vI sz, .ref tx, .ref rl, vI a, vI f, vI t, vI p, vI v]) := hset_at
  by_cases z : a < sz
  · have e := see_tq (tp := tp) z (htq a ha.1 (by omega))
    have b := hT a ha.1 (by omega)
    rw [← htq a ha.1 (by omega)] at b
    show GO E iX7_isAt _ _ _ 0 [some (.ref r), some (vI lw), some (vI hi)] [] _ _
    refine g_aload_n (q := 1) dX7_isAt_0 rfl rfl ?_
    refine g_get (C := RX7) (T := TX7) (ci := 8) (k := 7) (q := 4) dX7_isAt_1 q601 rfl in_X7 (by decide) hr rfl rfl ?_
    refine g_aload_n (q := 5) dX7_isAt_4 rfl rfl ?_
    refine g_get (C := RX7) (T := TX7) (ci := 8) (k := 4) (q := 8) dX7_isAt_5 q597 rfl in_X7 (by decide) hr rfl rfl ?_
    refine g_icmp_ge (t := 41) (q := 11) dX7_isAt_8 (by decide) rfl (by first | assumption | exact in32_gB | exact in32_gCmp | (unfold in32; omega)) (by first | assumption | exact in32_gB | exact in32_gCmp | (unfold in32; omega)) (fun c8 => ?_) (fun c8 => ?_)
    · exact absurd c8 (by omega)
    · refine g_aload_n (q := 12) dX7_isAt_11 rfl rfl ?_
      refine g_get (C := RX7) (T := TX7) (ci := 8) (k := 3) (q := 15) dX7_isAt_12 q596 rfl in_X7 (by decide) hr rfl rfl ?_
      refine g_aload_n (q := 16) dX7_isAt_15 rfl rfl ?_
      refine g_get (C := RX7) (T := TX7) (ci := 8) (k := 7) (q := 19) dX7_isAt_16 q601 rfl in_X7 (by decide) hr rfl rfl ?_
      refine g_bald (q := 20) dX7_isAt_19 hta (by omega) (by omega) rfl ?_
      refine g_iload_n (q := 21) dX7_isAt_20 rfl rfl ?_
      refine g_icmp_lt (t := 41) (q := 24) dX7_isAt_21 (by decide) rfl (by unfold in32; omega) (by unfold in32; omega) (fun c21 => ?_) (fun c21 => ?_)
      · refine g_iconst (q := 42) dX7_isAt_41 rfl ?_
        exact g_zret0 dX7_isAt_42 rfl ⟨by rw [gB_f (by first | assumption | omega)], rfl⟩
      · refine g_aload_n (q := 25) dX7_isAt_24 rfl rfl ?_
        refine g_get (C := RX7) (T := TX7) (ci := 8) (k := 3) (q := 28) dX7_isAt_25 q596 rfl in_X7 (by decide) hr rfl rfl ?_
        refine g_aload_n (q := 29) dX7_isAt_28 rfl rfl ?_
        refine g_get (C := RX7) (T := TX7) (ci := 8) (k := 7) (q := 32) dX7_isAt_29 q601 rfl in_X7 (by decide) hr rfl rfl ?_
        refine g_bald (q := 33) dX7_isAt_32 hta (by omega) (by omega) rfl ?_
        refine g_iload_n (q := 34) dX7_isAt_33 rfl rfl ?_
        refine g_icmp_gt (t := 41) (q := 37) dX7_isAt_34 (by decide) rfl (by unfold in32; omega) (by unfold in32; omega) (fun c34 => ?_) (fun c34 => ?_)
        · refine g_iconst (q := 42) dX7_isAt_41 rfl ?_
          exact g_zret0 dX7_isAt_42 rfl ⟨by rw [gB_f (by first | assumption | omega)], rfl⟩
        · refine g_iconst (q := 38) dX7_isAt_37 rfl ?_
          refine g_goto (t := 42) dX7_isAt_38 (by decide) ?_
          exact g_zret1 dX7_isAt_42 rfl ⟨by rw [gB_t (by first | assumption | omega)], rfl⟩
  · have e : seeV tp sz a = -1 := if_neg z
    show GO E iX7_isAt _ _ _ 0 [some (.ref r), some (vI lw), some (vI hi)] [] _ _
    refine g_aload_n (q := 1) dX7_isAt_0 rfl rfl ?_
    refine g_get (C := RX7) (T := TX7) (ci := 8) (k := 7) (q := 4) dX7_isAt_1 q601 rfl in_X7 (by decide) hr rfl rfl ?_
    refine g_aload_n (q := 5) dX7_isAt_4 rfl rfl ?_
    refine g_get (C := RX7) (T := TX7) (ci := 8) (k := 4) (q := 8) dX7_isAt_5 q597 rfl in_X7 (by decide) hr rfl rfl ?_
    refine g_icmp_ge (t := 41) (q := 11) dX7_isAt_8 (by decide) rfl (by first | assumption | exact in32_gB | exact in32_gCmp | (unfold in32; omega)) (by first | assumption | exact in32_gB | exact in32_gCmp | (unfold in32; omega)) (fun c8 => ?_) (fun c8 => ?_)
    · refine g_iconst (q := 42) dX7_isAt_41 rfl ?_
      exact g_zret0 dX7_isAt_42 rfl ⟨by rw [gB_f (by first | assumption | omega)], rfl⟩
    · exact absurd c8 (by omega)
/-- blanks -/
theorem l_next0 (hr : ta ≠ r) (hta : h.1 ta = some (aB E 900 tq)) (htq : ∀ j, 0 ≤ j → j < 900 → tq j = tp j) (hT : TPok tp) (hz : sz ≤ 900) : ∀ (n : Nat) (a : Int), 0 ≤ a → a + n = sz → GO E iX7_next (d + 1) 0 0 52 [some (.ref r)] [] (hset h r (rdC so la ak ta tx rl sz (skL tp sz n a) f t p v)) Q → GO E iX7_next (d + 1) 0 0 0 [some (.ref r)] [] (hset h r (rdC so la ak ta tx rl sz a f t p v)) Q := by
  intro n
  induction n with
  | zero =>
    intro a h0 h1 kk
    have hc : (hset h r (rdC so la ak ta tx rl sz a f t p v)).1 r = some (oB 8 [.ref so, .ref la, .ref ak, .ref ta, vI sz, .ref tx, .ref rl, vI a, vI f, vI t, vI p, vI v]) := hset_at
    refine g_aload_n (q := 1) dX7_next_0 rfl rfl ?_
    refine g_get (C := RX7) (T := TX7) (ci := 8) (k := 7) (q := 4) dX7_next_1 q601 rfl in_X7 (by decide) hc rfl rfl ?_
    refine g_aload_n (q := 5) dX7_next_4 rfl rfl ?_
    refine g_get (C := RX7) (T := TX7) (ci := 8) (k := 4) (q := 8) dX7_next_5 q597 rfl in_X7 (by decide) hc rfl rfl ?_
    refine g_icmp_ge (t := 52) (q := 11) dX7_next_8 (by decide) rfl (by first | assumption | exact in32_gB | exact in32_gCmp | (unfold in32; omega)) (by first | assumption | exact in32_gB | exact in32_gCmp | (unfold in32; omega)) (fun c8 => ?_) (fun c8 => ?_)
    · exact kk
    · exact absurd c8 (by omega)
  | succ n ih =>
    intro a h0 h1 kk
    have hc : (hset h r (rdC so la ak ta tx rl sz a f t p v)).1 r = some (oB 8 [.ref so, .ref la, .ref ak, .ref ta, vI sz, .ref tx, .ref rl, vI a, vI f, vI t, vI p, vI v]) := hset_at
    have hta2 : (hset h r (rdC so la ak ta tx rl sz a f t p v)).1 ta = some (aB E 900 tq) := (hset_ne hr).trans hta
    have e := see_tq (tp := tp) (show a < sz by omega) (htq a h0 (by omega))
    have b := hT a h0 (by omega)
    rw [← htq a h0 (by omega)] at b
    unfold skL at kk
    refine g_aload_n (q := 1) dX7_next_0 rfl rfl ?_
    refine g_get (C := RX7) (T := TX7) (ci := 8) (k := 7) (q := 4) dX7_next_1 q601 rfl in_X7 (by decide) hc rfl rfl ?_
    refine g_aload_n (q := 5) dX7_next_4 rfl rfl ?_
    refine g_get (C := RX7) (T := TX7) (ci := 8) (k := 4) (q := 8) dX7_next_5 q597 rfl in_X7 (by decide) hc rfl rfl ?_
    refine g_icmp_ge (t := 52) (q := 11) dX7_next_8 (by decide) rfl (by first | assumption | exact in32_gB | exact in32_gCmp | (unfold in32; omega)) (by first | assumption | exact in32_gB | exact in32_gCmp | (unfold in32; omega)) (fun c8 => ?_) (fun c8 => ?_)
    · exact absurd c8 (by omega)
    · refine g_aload_n (q := 12) dX7_next_11 rfl rfl ?_
      refine g_get (C := RX7) (T := TX7) (ci := 8) (k := 3) (q := 15) dX7_next_12 q596 rfl in_X7 (by decide) hc rfl rfl ?_
      refine g_aload_n (q := 16) dX7_next_15 rfl rfl ?_
      refine g_get (C := RX7) (T := TX7) (ci := 8) (k := 7) (q := 19) dX7_next_16 q601 rfl in_X7 (by decide) hc rfl rfl ?_
      refine g_bald (q := 20) dX7_next_19 hta2 (by omega) (by omega) rfl ?_
      refine g_bipush (q := 22) dX7_next_20 rfl ?_
      refine g_icmp_eq (t := 39) (q := 25) dX7_next_22 (by decide) rfl (by unfold in32; omega) (by unfold in32; omega) (fun c22 => ?_) (fun c22 => ?_)
      · refine g_aload_n (q := 40) dX7_next_39 rfl rfl ?_
        refine g_dup (q := 41) dX7_next_40 rfl ?_
        refine g_get (C := RX7) (T := TX7) (ci := 8) (k := 7) (q := 44) dX7_next_41 q601 rfl in_X7 (by decide) hc rfl rfl ?_
        refine g_iconst (q := 45) dX7_next_44 rfl ?_
        refine g_iadd (q := 46) dX7_next_45 rfl ?_
        refine g_put (C := RX7) (T := TX7) (ci := 8) (k := 7) (q := 49) dX7_next_46 q601 rfl in_X7 tyX7_ok nmX7 (by decide) rfl gFit_int hc (Nat.le_of_ble_eq_true rfl) rfl ?_
        rw [hset_hset]
        refine g_goto (t := 0) dX7_next_49 (by decide) ?_
        rw [if_pos (by omega)] at kk; exact ih _ (by omega) (by omega) kk
      · refine g_aload_n (q := 26) dX7_next_25 rfl rfl ?_
        refine g_get (C := RX7) (T := TX7) (ci := 8) (k := 3) (q := 29) dX7_next_26 q596 rfl in_X7 (by decide) hc rfl rfl ?_
        refine g_aload_n (q := 30) dX7_next_29 rfl rfl ?_
        refine g_get (C := RX7) (T := TX7) (ci := 8) (k := 7) (q := 33) dX7_next_30 q601 rfl in_X7 (by decide) hc rfl rfl ?_
        refine g_bald (q := 34) dX7_next_33 hta2 (by omega) (by omega) rfl ?_
        refine g_bipush (q := 36) dX7_next_34 rfl ?_
        refine g_icmp_ne (t := 52) (q := 39) dX7_next_36 (by decide) rfl (by unfold in32; omega) (by unfold in32; omega) (fun c36 => ?_) (fun c36 => ?_)
        · rw [if_neg (by omega)] at kk; exact kk
        · refine g_aload_n (q := 40) dX7_next_39 rfl rfl ?_
          refine g_dup (q := 41) dX7_next_40 rfl ?_
          refine g_get (C := RX7) (T := TX7) (ci := 8) (k := 7) (q := 44) dX7_next_41 q601 rfl in_X7 (by decide) hc rfl rfl ?_
          refine g_iconst (q := 45) dX7_next_44 rfl ?_
          refine g_iadd (q := 46) dX7_next_45 rfl ?_
          refine g_put (C := RX7) (T := TX7) (ci := 8) (k := 7) (q := 49) dX7_next_46 q601 rfl in_X7 tyX7_ok nmX7 (by decide) rfl gFit_int hc (Nat.le_of_ble_eq_true rfl) rfl ?_
          rw [hset_hset]
          refine g_goto (t := 0) dX7_next_49 (by decide) ?_
          rw [if_pos (by omega)] at kk; exact ih _ (by omega) (by omega) kk
/-- letters -/
theorem l_next1 (hr : ta ≠ r) (hta : h.1 ta = some (aB E 900 tq)) (htq : ∀ j, 0 ≤ j → j < 900 → tq j = tp j) (hT : TPok tp) (hz : sz ≤ 900) (hq : Q (.returned none) (hset h r (rdC so la ak ta tx rl sz t f 1 p v))) : ∀ (n : Nat) (a : Int), 0 ≤ a → a + n = sz → wdL tp sz n a = t → GO E iX7_next (d + 1) 0 0 108 [some (.ref r)] [] (hset h r (rdC so la ak ta tx rl sz a f 1 p v)) Q := by
  intro n
  induction n with
  | zero =>
    intro a h0 h1 kk
    have hc : (hset h r (rdC so la ak ta tx rl sz a f 1 p v)).1 r = some (oB 8 [.ref so, .ref la, .ref ak, .ref ta, vI sz, .ref tx, .ref rl, vI a, vI f, vI 1, vI p, vI v]) := hset_at
    have e : seeV tp sz a = -1 := if_neg (by omega)
    have e2 : a = t := kk
    subst e2
    refine g_aload_n (q := 109) dX7_next_108 rfl rfl ?_
    refine g_bipush (q := 111) dX7_next_109 rfl ?_
    refine g_bipush (q := 113) dX7_next_111 rfl ?_
    refine g_cv (I' := iX7_isAt) (mc := 0) (ms := 0) (rc := 0) (rs := 0) (ci := 8) (q := 116) dX7_next_113 q639 q641 rfl qs7 gcX7_isAt hc (c_isAt (d := d) (tp := tp) ((hset_ne hr).trans hta) htq hT (by omega) hz (by decide) (by decide)) rfl rfl ?_
    refine g_ifeqB (t := 235) (q := 119) dX7_next_116 (by decide) rfl (fun c116 => ?_) (fun c116 => ?_)
    · exact g_vret dX7_next_235 rfl hq
    · exact absurd c116 (by omega)
  | succ n ih =>
    intro a h0 h1 kk
    have hc : (hset h r (rdC so la ak ta tx rl sz a f 1 p v)).1 r = some (oB 8 [.ref so, .ref la, .ref ak, .ref ta, vI sz, .ref tx, .ref rl, vI a, vI f, vI 1, vI p, vI v]) := hset_at
    unfold wdL at kk
    refine g_aload_n (q := 109) dX7_next_108 rfl rfl ?_
    refine g_bipush (q := 111) dX7_next_109 rfl ?_
    refine g_bipush (q := 113) dX7_next_111 rfl ?_
    refine g_cv (I' := iX7_isAt) (mc := 0) (ms := 0) (rc := 0) (rs := 0) (ci := 8) (q := 116) dX7_next_113 q639 q641 rfl qs7 gcX7_isAt hc (c_isAt (d := d) (tp := tp) ((hset_ne hr).trans hta) htq hT (by omega) hz (by decide) (by decide)) rfl rfl ?_
    refine g_ifeqB (t := 235) (q := 119) dX7_next_116 (by decide) rfl (fun c116 => ?_) (fun c116 => ?_)
    · rw [if_neg c116] at kk; subst kk; exact g_vret dX7_next_235 rfl hq
    · refine g_aload_n (q := 120) dX7_next_119 rfl rfl ?_
      refine g_dup (q := 121) dX7_next_120 rfl ?_
      refine g_get (C := RX7) (T := TX7) (ci := 8) (k := 7) (q := 124) dX7_next_121 q601 rfl in_X7 (by decide) hc rfl rfl ?_
      refine g_iconst (q := 125) dX7_next_124 rfl ?_
      refine g_iadd (q := 126) dX7_next_125 rfl ?_
      refine g_put (C := RX7) (T := TX7) (ci := 8) (k := 7) (q := 129) dX7_next_126 q601 rfl in_X7 tyX7_ok nmX7 (by decide) rfl gFit_int hc (Nat.le_of_ble_eq_true rfl) rfl ?_
      rw [hset_hset]
      refine g_goto (t := 108) dX7_next_129 (by decide) ?_
      rw [if_pos c116] at kk; exact ih _ (by omega) (by omega) kk
/-- digits -/
theorem l_next2 (hr : ta ≠ r) (hta : h.1 ta = some (aB E 900 tq)) (htq : ∀ j, 0 ≤ j → j < 900 → tq j = tp j) (hT : TPok tp) (hz : sz ≤ 900) {w : Int} (hq : Q (.returned none) (hset h r (rdC so la ak ta tx rl sz t f 2 p (min 9999 w)))) : ∀ (n : Nat) (a u : Int), 0 ≤ a → a + n = sz → 0 ≤ u → u ≤ 99999 → nuL tp sz n a u = (t, w) → GO E iX7_next (d + 1) 0 0 148 [some (.ref r)] [] (hset h r (rdC so la ak ta tx rl sz a f 2 p (min 9999 u))) Q := by
  intro n
  induction n with
  | zero =>
    intro a u h0 h1 h2 h3 kk
    have hc : (hset h r (rdC so la ak ta tx rl sz a f 2 p (min 9999 u))).1 r = some (oB 8 [.ref so, .ref la, .ref ak, .ref ta, vI sz, .ref tx, .ref rl, vI a, vI f, vI 2, vI p, vI (min 9999 u)]) := hset_at
    have e : seeV tp sz a = -1 := if_neg (by omega)
    obtain ⟨e2, e3⟩ : a = t ∧ u = w := ⟨congrArg Prod.fst kk, congrArg Prod.snd kk⟩
    subst e2
    subst e3
    refine g_aload_n (q := 149) dX7_next_148 rfl rfl ?_
    refine g_bipush (q := 151) dX7_next_149 rfl ?_
    refine g_bipush (q := 153) dX7_next_151 rfl ?_
    refine g_cv (I' := iX7_isAt) (mc := 0) (ms := 0) (rc := 0) (rs := 0) (ci := 8) (q := 156) dX7_next_153 q639 q641 rfl qs7 gcX7_isAt hc (c_isAt (d := d) (tp := tp) ((hset_ne hr).trans hta) htq hT (by omega) hz (by decide) (by decide)) rfl rfl ?_
    refine g_ifeqB (t := 235) (q := 159) dX7_next_156 (by decide) rfl (fun c156 => ?_) (fun c156 => ?_)
    · exact g_vret dX7_next_235 rfl hq
    · exact absurd c156 (by omega)
  | succ n ih =>
    intro a u h0 h1 h2 h3 kk
    have hc : (hset h r (rdC so la ak ta tx rl sz a f 2 p (min 9999 u))).1 r = some (oB 8 [.ref so, .ref la, .ref ak, .ref ta, vI sz, .ref tx, .ref rl, vI a, vI f, vI 2, vI p, vI (min 9999 u)]) := hset_at
    have hta2 : (hset h r (rdC so la ak ta tx rl sz a f 2 p (min 9999 u))).1 ta = some (aB E 900 tq) := (hset_ne hr).trans hta
    have e := see_tq (tp := tp) (show a < sz by omega) (htq a h0 (by omega))
    have b := hT a h0 (by omega)
    rw [← htq a h0 (by omega)] at b
    have hc2 : ∀ y : Int, (hset h r (rdC so la ak ta tx rl sz a f 2 p y)).1 r = some (oB 8 [.ref so, .ref la, .ref ak, .ref ta, vI sz, .ref tx, .ref rl, vI a, vI f, vI 2, vI p, vI y]) := fun y => hset_at
    unfold nuL at kk
    refine g_aload_n (q := 149) dX7_next_148 rfl rfl ?_
    refine g_bipush (q := 151) dX7_next_149 rfl ?_
    refine g_bipush (q := 153) dX7_next_151 rfl ?_
    refine g_cv (I' := iX7_isAt) (mc := 0) (ms := 0) (rc := 0) (rs := 0) (ci := 8) (q := 156) dX7_next_153 q639 q641 rfl qs7 gcX7_isAt hc (c_isAt (d := d) (tp := tp) ((hset_ne hr).trans hta) htq hT (by omega) hz (by decide) (by decide)) rfl rfl ?_
    refine g_ifeqB (t := 235) (q := 159) dX7_next_156 (by decide) rfl (fun c156 => ?_) (fun c156 => ?_)
    · rw [if_neg c156] at kk; obtain ⟨e2, e3⟩ : a = t ∧ u = w := ⟨congrArg Prod.fst kk, congrArg Prod.snd kk⟩
      subst e2
      subst e3
      exact g_vret dX7_next_235 rfl hq
    · refine g_aload_n (q := 160) dX7_next_159 rfl rfl ?_
      refine g_sipush (q := 163) dX7_next_160 rfl ?_
      refine g_bipush (q := 165) dX7_next_163 rfl ?_
      refine g_aload_n (q := 166) dX7_next_165 rfl rfl ?_
      refine g_get (C := RX7) (T := TX7) (ci := 8) (k := 11) (q := 169) dX7_next_166 q605 rfl in_X7 (by decide) hc rfl rfl ?_
      refine g_imul (q := 170) dX7_next_169 rfl ?_
      refine g_aload_n (q := 171) dX7_next_170 rfl rfl ?_
      refine g_get (C := RX7) (T := TX7) (ci := 8) (k := 3) (q := 174) dX7_next_171 q596 rfl in_X7 (by decide) hc rfl rfl ?_
      refine g_aload_n (q := 175) dX7_next_174 rfl rfl ?_
      refine g_get (C := RX7) (T := TX7) (ci := 8) (k := 7) (q := 178) dX7_next_175 q601 rfl in_X7 (by decide) hc rfl rfl ?_
      refine g_bald (q := 179) dX7_next_178 hta2 (by omega) (by omega) rfl ?_
      refine g_iadd (q := 180) dX7_next_179 rfl ?_
      refine g_bipush (q := 182) dX7_next_180 rfl ?_
      refine g_isub (q := 183) dX7_next_182 rfl ?_
      refine g_cs (I' := iJ3_min) (mc := 0) (ms := 0) (rc := 0) (rs := 0) (q := 186) dX7_next_183 q643 q644 gcJ3_min (c_min (by unfold in32; omega) (by unfold in32; omega)) rfl rfl ?_
      refine g_put (C := RX7) (T := TX7) (ci := 8) (k := 11) (q := 189) dX7_next_186 q605 rfl in_X7 tyX7_ok nmX7 (by decide) rfl gFit_int hc (Nat.le_of_ble_eq_true rfl) rfl ?_
      rw [hset_hset]
      refine GO.cast (h' := hset h r (rdC so la ak ta tx rl sz a f 2 p (min 9999 (min 99999 (10 * u + seeV tp sz a - 48))))) (by rw [show min 9999 (min 99999 (10 * u + seeV tp sz a - 48)) = min 9999 (10 * min 9999 u + tq a - 48) by omega]; rfl) ?_
      refine g_aload_n (q := 190) dX7_next_189 rfl rfl ?_
      refine g_dup (q := 191) dX7_next_190 rfl ?_
      refine g_get (C := RX7) (T := TX7) (ci := 8) (k := 7) (q := 194) dX7_next_191 q601 rfl in_X7 (by decide) (hc2 _) rfl rfl ?_
      refine g_iconst (q := 195) dX7_next_194 rfl ?_
      refine g_iadd (q := 196) dX7_next_195 rfl ?_
      refine g_put (C := RX7) (T := TX7) (ci := 8) (k := 7) (q := 199) dX7_next_196 q601 rfl in_X7 tyX7_ok nmX7 (by decide) rfl gFit_int (hc2 _) (Nat.le_of_ble_eq_true rfl) rfl ?_
      rw [hset_hset]
      refine g_goto (t := 148) dX7_next_199 (by decide) ?_
      rw [if_pos c156] at kk; exact ih _ _ (by omega) (by omega) (by omega) (by omega) kk
theorem c_next {P : PS} (hr : ta ≠ r) (hta : h.1 ta = some (aB E 900 tq)) (htq : ∀ j, 0 ≤ j → j < 900 → tq j = tp j) (hT : TPok tp) (hz : sz ≤ 900) (h0 : 0 ≤ P.1 ∧ P.1 ≤ sz) : CALL E iX7_next (d + 1) 0 0 [.ref r] (hset h r (rdO so la ak ta tx rl sz P)) (qV (hset h r (rdO so la ak ta tx rl sz (PSadv tp sz P)))) := by
  have hs := skL_in (tp := tp) (sz := sz) (sz - P.1).toNat P.1 (by omega)
  refine l_next0 hr hta htq hT hz (sz - P.1).toNat P.1 h0.1 (by omega) ?_
  have eA : rdO so la ak ta tx rl sz (PSadv tp sz P) = rdC so la ak ta tx rl sz (adv1 tp sz (skL tp sz (sz - P.1).toNat P.1) P.2.2.2.1).1 (adv1 tp sz (skL tp sz (sz - P.1).toNat P.1) P.2.2.2.1).2.1 (adv1 tp sz (skL tp sz (sz - P.1).toNat P.1) P.2.2.2.1).2.2.1 (adv1 tp sz (skL tp sz (sz - P.1).toNat P.1) P.2.2.2.1).2.1 (if (adv1 tp sz (skL tp sz (sz - P.1).toNat P.1) P.2.2.2.1).2.2.1 = 2 then min 9999 (adv1 tp sz (skL tp sz (sz - P.1).toNat P.1) P.2.2.2.1).2.2.2 else 0) := rfl
  rw [eA]
  generalize skL tp sz (sz - P.1).toNat P.1 = q at hs
  generalize vX P = v
  generalize P.2.2.1 = t
  generalize P.2.1 = f
  generalize P.2.2.2.1 = u
  generalize eB : adv1 tp sz q u = A
  unfold adv1 at eB
  have hc : ∀ a f t p v : Int, (hset h r (rdC so la ak ta tx rl sz a f t p v)).1 r = some (oB 8 [.ref so, .ref la, .ref ak, .ref ta, vI sz, .ref tx, .ref rl, vI a, vI f, vI t, vI p, vI v]) := fun a f t p v => hset_at
  have hta2 : ∀ a f t p v : Int, (hset h r (rdC so la ak ta tx rl sz a f t p v)).1 ta = some (aB E 900 tq) := fun a f t p v => (hset_ne hr).trans hta
  refine g_aload_n (q := 53) dX7_next_52 rfl rfl ?_
  refine g_aload_n (q := 54) dX7_next_53 rfl rfl ?_
  refine g_get (C := RX7) (T := TX7) (ci := 8) (k := 7) (q := 57) dX7_next_54 q601 rfl in_X7 (by decide) (hc _ _ _ _ _) rfl rfl ?_
  refine g_put (C := RX7) (T := TX7) (ci := 8) (k := 10) (q := 60) dX7_next_57 q604 rfl in_X7 tyX7_ok nmX7 (by decide) rfl gFit_int (hc _ _ _ _ _) (Nat.le_of_ble_eq_true rfl) rfl ?_
  rw [hset_hset]
  refine g_aload_n (q := 61) dX7_next_60 rfl rfl ?_
  refine g_aload_n (q := 62) dX7_next_61 rfl rfl ?_
  refine g_get (C := RX7) (T := TX7) (ci := 8) (k := 7) (q := 65) dX7_next_62 q601 rfl in_X7 (by decide) (hc _ _ _ _ _) rfl rfl ?_
  refine g_put (C := RX7) (T := TX7) (ci := 8) (k := 8) (q := 68) dX7_next_65 q602 rfl in_X7 tyX7_ok nmX7 (by decide) rfl gFit_int (hc _ _ _ _ _) (Nat.le_of_ble_eq_true rfl) rfl ?_
  rw [hset_hset]
  refine g_aload_n (q := 69) dX7_next_68 rfl rfl ?_
  refine g_iconst (q := 70) dX7_next_69 rfl ?_
  refine g_put (C := RX7) (T := TX7) (ci := 8) (k := 11) (q := 73) dX7_next_70 q605 rfl in_X7 tyX7_ok nmX7 (by decide) rfl gFit_int (hc _ _ _ _ _) (Nat.le_of_ble_eq_true rfl) rfl ?_
  rw [hset_hset]
  refine g_aload_n (q := 74) dX7_next_73 rfl rfl ?_
  refine g_get (C := RX7) (T := TX7) (ci := 8) (k := 7) (q := 77) dX7_next_74 q601 rfl in_X7 (by decide) (hc _ _ _ _ _) rfl rfl ?_
  refine g_aload_n (q := 78) dX7_next_77 rfl rfl ?_
  refine g_get (C := RX7) (T := TX7) (ci := 8) (k := 4) (q := 81) dX7_next_78 q597 rfl in_X7 (by decide) (hc _ _ _ _ _) rfl rfl ?_
  refine g_icmp_ne (t := 92) (q := 84) dX7_next_81 (by decide) rfl (by first | assumption | exact in32_gB | exact in32_gCmp | (unfold in32; omega)) (by first | assumption | exact in32_gB | exact in32_gCmp | (unfold in32; omega)) (fun c81 => ?_) (fun c81 => ?_)
  · have hq : q < sz := by omega
    have ne : seeV tp sz q ≠ -1 := by rw [see_tq (tp := tp) hq (htq q (by omega) (by omega))]; omega
    rw [if_neg ne] at eB
    refine g_aload_n (q := 93) dX7_next_92 rfl rfl ?_
    refine g_bipush (q := 95) dX7_next_93 rfl ?_
    refine g_bipush (q := 97) dX7_next_95 rfl ?_
    refine g_cv (I' := iX7_isAt) (mc := 0) (ms := 0) (rc := 0) (rs := 0) (ci := 8) (q := 100) dX7_next_97 q639 q641 rfl qs7 gcX7_isAt (hc _ _ _ _ _) (c_isAt (d := d) (tp := tp) (hta2 _ _ _ _ _) htq hT (by omega) hz (by decide) (by decide)) rfl rfl ?_
    refine g_ifeqB (t := 132) (q := 103) dX7_next_100 (by decide) rfl (fun c100 => ?_) (fun c100 => ?_)
    · refine g_aload_n (q := 133) dX7_next_132 rfl rfl ?_
      refine g_bipush (q := 135) dX7_next_133 rfl ?_
      refine g_bipush (q := 137) dX7_next_135 rfl ?_
      refine g_cv (I' := iX7_isAt) (mc := 0) (ms := 0) (rc := 0) (rs := 0) (ci := 8) (q := 140) dX7_next_137 q639 q641 rfl qs7 gcX7_isAt (hc _ _ _ _ _) (c_isAt (d := d) (tp := tp) (hta2 _ _ _ _ _) htq hT (by omega) hz (by decide) (by decide)) rfl rfl ?_
      refine g_ifeqB (t := 202) (q := 143) dX7_next_140 (by decide) rfl (fun c140 => ?_) (fun c140 => ?_)
      · rw [if_neg c100, if_neg c140] at eB
        have e := see_tq (tp := tp) hq (htq q (by omega) (by omega))
        have b := hT q (by omega) (by omega)
        rw [← htq q (by omega) (by omega)] at b
        refine g_aload_n (q := 203) dX7_next_202 rfl rfl ?_
        refine g_aload_n (q := 204) dX7_next_203 rfl rfl ?_
        refine g_get (C := RX7) (T := TX7) (ci := 8) (k := 3) (q := 207) dX7_next_204 q596 rfl in_X7 (by decide) (hc _ _ _ _ _) rfl rfl ?_
        refine g_aload_n (q := 208) dX7_next_207 rfl rfl ?_
        refine g_get (C := RX7) (T := TX7) (ci := 8) (k := 7) (q := 211) dX7_next_208 q601 rfl in_X7 (by decide) (hc _ _ _ _ _) rfl rfl ?_
        refine g_bald (q := 212) dX7_next_211 (hta2 _ _ _ _ _) (by omega) (by omega) rfl ?_
        refine g_bipush (q := 214) dX7_next_212 rfl ?_
        refine g_icmp_ne (t := 221) (q := 217) dX7_next_214 (by decide) rfl (by unfold in32; omega) (by unfold in32; omega) (fun c214 => ?_) (fun c214 => ?_)
        · refine g_iconst (q := 222) dX7_next_221 rfl ?_
          refine g_put (C := RX7) (T := TX7) (ci := 8) (k := 9) (q := 225) dX7_next_222 q603 rfl in_X7 tyX7_ok nmX7 (by decide) rfl gFit_int (hc _ _ _ _ _) (Nat.le_of_ble_eq_true rfl) rfl ?_
          rw [hset_hset]
          refine g_aload_n (q := 226) dX7_next_225 rfl rfl ?_
          refine g_dup (q := 227) dX7_next_226 rfl ?_
          refine g_get (C := RX7) (T := TX7) (ci := 8) (k := 7) (q := 230) dX7_next_227 q601 rfl in_X7 (by decide) (hc _ _ _ _ _) rfl rfl ?_
          refine g_iconst (q := 231) dX7_next_230 rfl ?_
          refine g_iadd (q := 232) dX7_next_231 rfl ?_
          refine g_put (C := RX7) (T := TX7) (ci := 8) (k := 7) (q := 235) dX7_next_232 q601 rfl in_X7 tyX7_ok nmX7 (by decide) rfl gFit_int (hc _ _ _ _ _) (Nat.le_of_ble_eq_true rfl) rfl ?_
          rw [hset_hset]
          first
          | (rw [if_pos (by omega)] at eB; subst eB; exact g_vret dX7_next_235 rfl ⟨rfl, rfl⟩)
          | (rw [if_neg (by omega)] at eB; subst eB; exact g_vret dX7_next_235 rfl ⟨rfl, rfl⟩)
          | exact g_vret dX7_next_235 rfl ⟨rfl, rfl⟩
        · refine g_iconst (q := 218) dX7_next_217 rfl ?_
          refine g_goto (t := 222) dX7_next_218 (by decide) ?_
          refine g_put (C := RX7) (T := TX7) (ci := 8) (k := 9) (q := 225) dX7_next_222 q603 rfl in_X7 tyX7_ok nmX7 (by decide) rfl gFit_int (hc _ _ _ _ _) (Nat.le_of_ble_eq_true rfl) rfl ?_
          rw [hset_hset]
          refine g_aload_n (q := 226) dX7_next_225 rfl rfl ?_
          refine g_dup (q := 227) dX7_next_226 rfl ?_
          refine g_get (C := RX7) (T := TX7) (ci := 8) (k := 7) (q := 230) dX7_next_227 q601 rfl in_X7 (by decide) (hc _ _ _ _ _) rfl rfl ?_
          refine g_iconst (q := 231) dX7_next_230 rfl ?_
          refine g_iadd (q := 232) dX7_next_231 rfl ?_
          refine g_put (C := RX7) (T := TX7) (ci := 8) (k := 7) (q := 235) dX7_next_232 q601 rfl in_X7 tyX7_ok nmX7 (by decide) rfl gFit_int (hc _ _ _ _ _) (Nat.le_of_ble_eq_true rfl) rfl ?_
          rw [hset_hset]
          first
          | (rw [if_pos (by omega)] at eB; subst eB; exact g_vret dX7_next_235 rfl ⟨rfl, rfl⟩)
          | (rw [if_neg (by omega)] at eB; subst eB; exact g_vret dX7_next_235 rfl ⟨rfl, rfl⟩)
          | exact g_vret dX7_next_235 rfl ⟨rfl, rfl⟩
      · refine g_aload_n (q := 144) dX7_next_143 rfl rfl ?_
        refine g_iconst (q := 145) dX7_next_144 rfl ?_
        refine g_put (C := RX7) (T := TX7) (ci := 8) (k := 9) (q := 148) dX7_next_145 q603 rfl in_X7 tyX7_ok nmX7 (by decide) rfl gFit_int (hc _ _ _ _ _) (Nat.le_of_ble_eq_true rfl) rfl ?_
        rw [hset_hset]
        rw [if_neg c100, if_pos c140] at eB; subst eB; exact l_next2 hr hta htq hT hz ⟨rfl, rfl⟩ (sz - q).toNat q 0 (by omega) (by omega) (by omega) (by omega) rfl
    · refine g_aload_n (q := 104) dX7_next_103 rfl rfl ?_
      refine g_iconst (q := 105) dX7_next_104 rfl ?_
      refine g_put (C := RX7) (T := TX7) (ci := 8) (k := 9) (q := 108) dX7_next_105 q603 rfl in_X7 tyX7_ok nmX7 (by decide) rfl gFit_int (hc _ _ _ _ _) (Nat.le_of_ble_eq_true rfl) rfl ?_
      rw [hset_hset]
      rw [if_pos c100] at eB; subst eB; exact l_next1 hr hta htq hT hz ⟨rfl, rfl⟩ (sz - q).toNat q (by omega) (by omega) rfl
  · refine g_aload_n (q := 85) dX7_next_84 rfl rfl ?_
    refine g_iconst (q := 86) dX7_next_85 rfl ?_
    refine g_put (C := RX7) (T := TX7) (ci := 8) (k := 9) (q := 89) dX7_next_86 q603 rfl in_X7 tyX7_ok nmX7 (by decide) rfl gFit_int (hc _ _ _ _ _) (Nat.le_of_ble_eq_true rfl) rfl ?_
    rw [hset_hset]
    rw [if_pos (show seeV tp sz q = -1 from if_neg (by omega))] at eB
    subst eB
    refine g_goto (t := 235) dX7_next_89 (by decide) ?_
    first
    | (rw [if_pos (by omega)] at eB; subst eB; exact g_vret dX7_next_235 rfl ⟨rfl, rfl⟩)
    | (rw [if_neg (by omega)] at eB; subst eB; exact g_vret dX7_next_235 rfl ⟨rfl, rfl⟩)
    | exact g_vret dX7_next_235 rfl ⟨rfl, rfl⟩
end
