/-! THE COMPONENT: the Reader's words and numbers -/
set_option maxRecDepth 100000
theorem g_cvX {E : gE} {I I' : gI} {d rc rs mc ms pc idx np b ci : Nat} {lv : List (Option Value)} {st rest fs As : List Value} {h : gH} {Q : Outcome → gH → Prop} {r : vw_C} {Pe : Nat → gH → Prop} (hd : decode I.2.1 pc = .ok (.invokevirtual idx, 3)) (hlink : Cond.methodLink I.1.cls idx I'.1 ∈ lw_all) (hinst : Cond.instanceMethod I'.1 ∈ lw_all) (hcl : vwCl[ci]? = some r) (hsel : Cond.selects r.1 I'.1 I'.1 ∈ lw_all) (hg : gCode I' np) (hb : h.1 b = some (oB ci fs)) (call : CALL E I' d mc ms (.ref b :: As) h (qVE (fun _ => False) Pe)) (hst : st = As.reverse ++ .ref b :: rest) (kx : ∀ x k, Pe x k → Q (.threw x) k)
    (hn : As.length = np := by rfl) (hf : (lg_sl (.ref b :: As)).length ≤ I'.2.2.1 := by exact Nat.le_of_ble_eq_true rfl) (hw : (rest.map fun v => v.category).sum ≤ 20 := by exact Nat.le_of_ble_eq_true rfl) (hm : I'.2.2.1 ≤ 33 := by exact Nat.le_of_ble_eq_true rfl) (hh : (tableOf I.2.2.2.2).all (fun y => !covers y pc) = true := by exact rfl) : GO E I (d + 1) (rc + mc) (rs + ms) pc lv st h Q :=
  g_cvVE hd hlink hinst hcl hsel hg hb call hst rfl kx (fun k z => z.elim) hn hf hw hm hh
/-- the first of the words that stands here; how many words otherwise -/
def whP (tp : Int → Int) (P : PS) : List (List Int) → Int
  | [] => 0
  | b :: l => if isW tp b P then 0 else 1 + whP tp P l
/-- a row of words -/
def WRD (E : gE) (h : gH) (a : Nat) (L : List (List Int)) : Prop := ∃ f : Int → Option Nat, h.1 a = some (aR E 11 L.length f) ∧ ∀ j : Nat, j < L.length → ∃ x, f (j : Int) = some x ∧ STR E x (L.getD j [])
abbrev lSorts : List (List Int) := [wNext, wBack, wOff, wPlace]
abbrev lLaws : List (List Int) := [wGrow, wFall, wMix]
abbrev lAsks : List (List Int) := [wHas, wLeft, wEasy, wTired, wHour]
theorem whP_in {tp : Int → Int} {P : PS} : ∀ L : List (List Int), 0 ≤ whP tp P L ∧ whP tp P L ≤ L.length := by
  intro L
  induction L with
  | nil => exact ⟨Int.le_refl _, Int.le_refl _⟩
  | cons b l ih =>
    unfold whP
    rw [List.length_cons]
    split <;> omega
section
variable {E : gE} {d r so la ak ta tx rl x : Nat} {h : gH} {tp tq : Int → Int} {sz k lw hi : Int} {P : PS} {bs : List Int} {Q : Outcome → gH → Prop} {L : List (List Int)}
theorem rd_at : (hset h r (rdO so la ak ta tx rl sz P)).1 r = some (oB 8 [.ref so, .ref la, .ref ak, .ref ta, vI sz, .ref tx, .ref rl, vI P.1, vI P.2.1, vI P.2.2.1, vI P.2.1, vI (vX P)]) := hset_at
theorem c_failsE (ok : gOK E) (hr : r < h.2) : CALL E iX7_fails (d + 4) 1 8 [.ref r, vI k] (hset h r (rdO so la ak ta tx rl sz P)) (qVE (fun _ => False) (fun y k' => y = h.2 ∧ k' = hnew (hset h r (rdO so la ak ta tx rl sz P)) (wrO k P.2.1))) :=
  GO.mono (c_fails ok hr) (fun o k' z => by obtain ⟨rfl, rfl⟩ := z; exact ⟨rfl, rfl⟩)
theorem l_isR0 (hS : STR E x bs) : 0 ≤ k → k ≤ 200 → GO E iX7_is (d + 4) 0 0 32 [some (.ref r), some (.ref x), some (vI 0), some (vI k)] [] h (qR (vI 0) h) := by
  intro h0 h1
  have hb := hS.2.2.1.1
  refine g_iload_n (q := 33) dX7_is_32 rfl rfl ?_
  refine g_aload_n (q := 34) dX7_is_33 rfl rfl ?_
  refine g_cvO (I' := iJ4_length) (mc := 0) (ms := 0) (rc := 0) (rs := 0) (q := 37) dX7_is_34 q658 q659 q660 gcJ4_length (hS.1) (c_slen (d := d + 2) hS) rfl rfl ?_
  refine g_icmp_ge (t := 75) (q := 40) dX7_is_37 (by decide) rfl (by first | assumption | exact in32_gB | exact in32_gCmp | (unfold in32; omega)) (by first | assumption | exact in32_gB | exact in32_gCmp | (unfold in32; omega)) (fun c37 => ?_) (fun c37 => ?_)
  · refine g_iload_n (q := 76) dX7_is_75 rfl rfl ?_
    exact g_zret0 dX7_is_76 rfl ⟨rfl, rfl⟩
  · refine g_iload_n (q := 41) dX7_is_40 rfl rfl ?_
    refine g_if_eq (t := 75) (q := 44) dX7_is_41 (by decide) rfl (by first | assumption | exact in32_gB | exact in32_gCmp | (unfold in32; omega)) (fun c41 => ?_) (fun c41 => ?_)
    · refine g_iload_n (q := 76) dX7_is_75 rfl rfl ?_
      exact g_zret0 dX7_is_76 rfl ⟨rfl, rfl⟩
    · exact absurd rfl c41
theorem l_isR1 (hr : ta ≠ r) (hta : h.1 ta = some (aB E 900 tq)) (htq : ∀ j, 0 ≤ j → j < 900 → tq j = tp j) (hT : TPok tp) (hS : STR E x bs) (hf : 0 ≤ P.2.1) (hf1 : P.2.1 + bs.length ≤ 900) : ∀ (l : List Int) (k : Nat), bs.drop k = l → k ≤ bs.length → GO E iX7_is (d + 4) 0 0 32 [some (.ref r), some (.ref x), some (vI 1), some (vI (k : Int))] [] (hset h r (rdO so la ak ta tx rl sz P)) (qR (vI (gB (eqL tp l (P.2.1 + k) = true))) (hset h r (rdO so la ak ta tx rl sz P))) := by
  have hb := hS.2.2.1
  have hta2 : (hset h r (rdO so la ak ta tx rl sz P)).1 ta = some (aB E 900 tq) := (hset_ne hr).trans hta
  intro l
  induction l with
  | nil =>
    intro k e hk
    have q : bs.length ≤ k := List.drop_eq_nil_iff.mp e
    refine g_iload_n (q := 33) dX7_is_32 rfl rfl ?_
    refine g_aload_n (q := 34) dX7_is_33 rfl rfl ?_
    refine g_cvO (I' := iJ4_length) (mc := 0) (ms := 0) (rc := 0) (rs := 0) (q := 37) dX7_is_34 q658 q659 q660 gcJ4_length (hS.1) (c_slen (d := d + 2) hS) rfl rfl ?_
    refine g_icmp_ge (t := 75) (q := 40) dX7_is_37 (by decide) rfl (by first | assumption | exact in32_gB | exact in32_gCmp | (unfold in32; omega)) (by first | assumption | exact in32_gB | exact in32_gCmp | (unfold in32; omega)) (fun c37 => ?_) (fun c37 => ?_)
    · refine g_iload_n (q := 76) dX7_is_75 rfl rfl ?_
      exact g_zret1 dX7_is_76 rfl ⟨rI (gB_t (show eqL tp [] (P.2.1 + k) = true from rfl)).symm, rfl⟩
    · exact absurd c37 (by omega)
  | cons b l ih =>
    intro k e hk
    have hlt : k < bs.length := by
      rcases Nat.lt_or_ge k bs.length with w | w
      · exact w
      · rw [List.drop_eq_nil_iff.mpr w] at e; cases e
    have e1 : bs.getD (Int.toNat (k : Int)) 0 = b := by
      rw [Int.toNat_natCast, List.getD_eq_getElem?_getD, List.getElem?_eq_getElem hlt]
      rw [List.drop_eq_getElem_cons hlt] at e
      exact (List.cons.inj e).1
    have e2 : bs.drop (k + 1) = l := by
      rw [List.drop_eq_getElem_cons hlt] at e
      exact (List.cons.inj e).2
    have hbb : 0 ≤ b ∧ b < 128 := hb.2 b (List.mem_of_mem_drop (by rw [e]; exact List.mem_cons_self))
    have ht := hT (P.2.1 + k) (by omega) (by omega)
    have ec : ((k : Int) + 1) = ((k + 1 : Nat) : Int) := by omega
    refine g_iload_n (q := 33) dX7_is_32 rfl rfl ?_
    refine g_aload_n (q := 34) dX7_is_33 rfl rfl ?_
    refine g_cvO (I' := iJ4_length) (mc := 0) (ms := 0) (rc := 0) (rs := 0) (q := 37) dX7_is_34 q658 q659 q660 gcJ4_length (hS.1) (c_slen (d := d + 2) hS) rfl rfl ?_
    refine g_icmp_ge (t := 75) (q := 40) dX7_is_37 (by decide) rfl (by first | assumption | exact in32_gB | exact in32_gCmp | (unfold in32; omega)) (by first | assumption | exact in32_gB | exact in32_gCmp | (unfold in32; omega)) (fun c37 => ?_) (fun c37 => ?_)
    · exact absurd c37 (by omega)
    · refine g_iload_n (q := 41) dX7_is_40 rfl rfl ?_
      refine g_if_eq (t := 75) (q := 44) dX7_is_41 (by decide) rfl (by first | assumption | exact in32_gB | exact in32_gCmp | (unfold in32; omega)) (fun c41 => ?_) (fun c41 => ?_)
      · exact absurd c41 (by decide)
      · refine g_aload_n (q := 45) dX7_is_44 rfl rfl ?_
        refine g_get (C := RX7) (T := TX7) (ci := 8) (k := 3) (q := 48) dX7_is_45 q596 rfl in_X7 (by decide) rd_at rfl rfl ?_
        refine g_aload_n (q := 49) dX7_is_48 rfl rfl ?_
        refine g_get (C := RX7) (T := TX7) (ci := 8) (k := 8) (q := 52) dX7_is_49 q602 rfl in_X7 (by decide) rd_at rfl rfl ?_
        refine g_iload_n (q := 53) dX7_is_52 rfl rfl ?_
        refine g_iadd (q := 54) dX7_is_53 rfl ?_
        refine g_bald (q := 55) dX7_is_54 hta2 (by omega) (by omega) rfl ?_
        rw [htq _ (by omega) (by omega)]
        refine g_aload_n (q := 56) dX7_is_55 rfl rfl ?_
        refine g_iload_n (q := 57) dX7_is_56 rfl rfl ?_
        refine g_cvO (I' := iJ4_charAt) (mc := 0) (ms := 0) (rc := 0) (rs := 0) (q := 60) dX7_is_57 q668 q669 q670 gcJ4_charAt (hS.1) (c_charAt (d := d) hS (by omega) (by omega)) rfl rfl ?_
        rw [e1]
        refine g_icmp_ne (t := 67) (q := 63) dX7_is_60 (by decide) rfl (by first | assumption | exact in32_gB | exact in32_gCmp | (unfold in32; omega)) (by first | assumption | exact in32_gB | exact in32_gCmp | (unfold in32; omega)) (fun c60 => ?_) (fun c60 => ?_)
        · refine g_iconst (q := 68) dX7_is_67 rfl ?_
          refine g_istore_n (q := 69) dX7_is_68 gs2 rfl ?_
          refine g_iinc (q := 72) dX7_is_69 rfl gs3 rfl ?_
          refine g_goto (t := 32) dX7_is_72 (by decide) ?_
          first
          | (have z := ih (k + 1) e2 (by omega); rw [show eqL tp (b :: l) (P.2.1 + k) = eqL tp l (P.2.1 + k + 1) from if_pos c60, ec, show P.2.1 + (k : Int) + 1 = P.2.1 + ((k + 1 : Nat) : Int) by omega]; exact z)
          | (rw [show gB (eqL tp (b :: l) (P.2.1 + k) = true) = 0 from gB_f (by rw [show eqL tp (b :: l) (P.2.1 + k) = false from if_neg c60]; decide)]; exact l_isR0 hS (by omega) (by omega))
        · refine g_iconst (q := 64) dX7_is_63 rfl ?_
          refine g_goto (t := 68) dX7_is_64 (by decide) ?_
          refine g_istore_n (q := 69) dX7_is_68 gs2 rfl ?_
          refine g_iinc (q := 72) dX7_is_69 rfl gs3 rfl ?_
          refine g_goto (t := 32) dX7_is_72 (by decide) ?_
          first
          | (have z := ih (k + 1) e2 (by omega); rw [show eqL tp (b :: l) (P.2.1 + k) = eqL tp l (P.2.1 + k + 1) from if_pos c60, ec, show P.2.1 + (k : Int) + 1 = P.2.1 + ((k + 1 : Nat) : Int) by omega]; exact z)
          | (rw [show gB (eqL tp (b :: l) (P.2.1 + k) = true) = 0 from gB_f (by rw [show eqL tp (b :: l) (P.2.1 + k) = false from if_neg c60]; decide)]; exact l_isR0 hS (by omega) (by omega))
theorem c_isR (hr : ta ≠ r) (hta : h.1 ta = some (aB E 900 tq)) (htq : ∀ j, 0 ≤ j → j < 900 → tq j = tp j) (hT : TPok tp) (hS : STR E x bs) (hP : PSt sz P) (hf : P.2.2.2.2.1 = 0) (hz : sz ≤ 900) : CALL E iX7_is (d + 4) 0 0 [.ref r, .ref x] (hset h r (rdO so la ak ta tx rl sz P)) (qR (vI (gB (isW tp bs P))) (hset h r (rdO so la ak ta tx rl sz P))) := by
  have h1 := hP.1
  have h2 := hP.2.1
  have hb := hS.2.2.1.1
  have k1 : P.2.2.1 = 1 → P.1 - P.2.1 = bs.length → GO E iX7_is (d + 4) 0 0 32 [some (.ref r), some (.ref x), some (vI 1), some (vI 0)] [] (hset h r (rdO so la ak ta tx rl sz P)) (qR (vI (gB (isW tp bs P))) (hset h r (rdO so la ak ta tx rl sz P))) := by
    intro c5 c21
    have z := l_isR1 (E := E) (d := d) (P := P) (sz := sz) (so := so) (la := la) (ak := ak) (tx := tx) (rl := rl) hr hta htq hT hS (by omega) (by omega) bs 0 rfl (Nat.zero_le _)
    rw [show P.2.1 + ((0 : Nat) : Int) = P.2.1 from Int.add_zero _] at z
    rw [show gB (isW tp bs P) = gB (eqL tp bs P.2.1 = true) from gB_i ⟨fun q => q.2.2.2, fun q => ⟨hf, c5, c21, q⟩⟩]
    exact z
  have k0 : ¬ (P.2.2.1 = 1 ∧ P.1 - P.2.1 = bs.length) → GO E iX7_is (d + 4) 0 0 32 [some (.ref r), some (.ref x), some (vI 0), some (vI 0)] [] (hset h r (rdO so la ak ta tx rl sz P)) (qR (vI (gB (isW tp bs P))) (hset h r (rdO so la ak ta tx rl sz P))) := by
    intro c
    rw [show gB (isW tp bs P) = 0 from gB_f (fun q => c ⟨q.2.1, q.2.2.1⟩)]
    exact l_isR0 hS (by decide) (by decide)
  show GO E iX7_is _ _ _ 0 [some (.ref r), some (.ref x), none, none] [] _ _
  refine g_aload_n (q := 1) dX7_is_0 rfl rfl ?_
  refine g_get (C := RX7) (T := TX7) (ci := 8) (k := 9) (q := 4) dX7_is_1 q603 rfl in_X7 (by decide) rd_at rfl rfl ?_
  refine g_iconst (q := 5) dX7_is_4 rfl ?_
  refine g_icmp_ne (t := 28) (q := 8) dX7_is_5 (by decide) rfl (by unfold in32; omega) (by unfold in32; omega) (fun c5 => ?_) (fun c5 => ?_)
  · refine g_iconst (q := 29) dX7_is_28 rfl ?_
    refine g_istore_n (q := 30) dX7_is_29 gs2 rfl ?_
    refine g_iconst (q := 31) dX7_is_30 rfl ?_
    refine g_istore_n (q := 32) dX7_is_31 gs3 rfl ?_
    first
    | exact k1 c5 c21
    | exact k0 (fun q => c5 q.1)
    | exact k0 (fun q => c21 q.2)
  · refine g_aload_n (q := 9) dX7_is_8 rfl rfl ?_
    refine g_get (C := RX7) (T := TX7) (ci := 8) (k := 7) (q := 12) dX7_is_9 q601 rfl in_X7 (by decide) rd_at rfl rfl ?_
    refine g_aload_n (q := 13) dX7_is_12 rfl rfl ?_
    refine g_get (C := RX7) (T := TX7) (ci := 8) (k := 8) (q := 16) dX7_is_13 q602 rfl in_X7 (by decide) rd_at rfl rfl ?_
    refine g_isub (q := 17) dX7_is_16 rfl ?_
    refine g_aload_n (q := 18) dX7_is_17 rfl rfl ?_
    refine g_cvO (I' := iJ4_length) (mc := 0) (ms := 0) (rc := 0) (rs := 0) (q := 21) dX7_is_18 q658 q659 q660 gcJ4_length (hS.1) (c_slen (d := d + 2) hS) rfl rfl ?_
    refine g_icmp_ne (t := 28) (q := 24) dX7_is_21 (by decide) rfl (by first | assumption | exact in32_gB | exact in32_gCmp | (unfold in32; omega)) (by first | assumption | exact in32_gB | exact in32_gCmp | (unfold in32; omega)) (fun c21 => ?_) (fun c21 => ?_)
    · refine g_iconst (q := 29) dX7_is_28 rfl ?_
      refine g_istore_n (q := 30) dX7_is_29 gs2 rfl ?_
      refine g_iconst (q := 31) dX7_is_30 rfl ?_
      refine g_istore_n (q := 32) dX7_is_31 gs3 rfl ?_
      first
      | exact k1 c5 c21
      | exact k0 (fun q => c5 q.1)
      | exact k0 (fun q => c21 q.2)
    · refine g_iconst (q := 25) dX7_is_24 rfl ?_
      refine g_goto (t := 29) dX7_is_25 (by decide) ?_
      refine g_istore_n (q := 30) dX7_is_29 gs2 rfl ?_
      refine g_iconst (q := 31) dX7_is_30 rfl ?_
      refine g_istore_n (q := 32) dX7_is_31 gs3 rfl ?_
      first
      | exact k1 c5 c21
      | exact k0 (fun q => c5 q.1)
      | exact k0 (fun q => c21 q.2)
theorem c_takesR (hr : ta ≠ r) (hta : h.1 ta = some (aB E 900 tq)) (htq : ∀ j, 0 ≤ j → j < 900 → tq j = tp j) (hT : TPok tp) (hS : STR E x bs) (hP : PSt sz P) (hf : P.2.2.2.2.1 = 0) (hz : sz ≤ 900) : CALL E iX7_takes (d + 5) 0 0 [.ref r, .ref x] (hset h r (rdO so la ak ta tx rl sz P)) (qR (vI (gB (isW tp bs P))) (hset h r (rdO so la ak ta tx rl sz (if isW tp bs P then PSadv tp sz P else P)))) := by
  show GO E iX7_takes _ _ _ 0 [some (.ref r), some (.ref x), none] [] _ _
  refine g_aload_n (q := 1) dX7_takes_0 rfl rfl ?_
  refine g_aload_n (q := 2) dX7_takes_1 rfl rfl ?_
  refine g_cv (I' := iX7_is) (mc := 0) (ms := 0) (rc := 0) (rs := 0) (ci := 8) (q := 5) dX7_takes_2 q654 q656 rfl qs10 gcX7_is rd_at (c_isR (d := d) hr hta htq hT hS hP hf hz) rfl rfl ?_
  refine g_istore_n (q := 6) dX7_takes_5 gs2 rfl ?_
  refine g_iload_n (q := 7) dX7_takes_6 rfl rfl ?_
  refine g_ifeqB (t := 14) (q := 10) dX7_takes_7 (by decide) rfl (fun c7 => ?_) (fun c7 => ?_)
  · refine g_iload_n (q := 15) dX7_takes_14 rfl rfl ?_
    exact g_zret dX7_takes_15 rfl ⟨rfl, by first | rw [if_pos c7] | rw [if_neg c7]⟩
  · refine g_aload_n (q := 11) dX7_takes_10 rfl rfl ?_
    refine g_cvV (I' := iX7_next) (mc := 0) (ms := 0) (rc := 0) (rs := 0) (ci := 8) (q := 14) dX7_takes_11 q635 q637 rfl qs6 gcX7_next rd_at (GO.deep (c_next (d := 0) hr hta htq hT hz ⟨by have := hP.1; omega, hP.1.2.2⟩) (by omega)) rfl rfl ?_
    refine g_iload_n (q := 15) dX7_takes_14 rfl rfl ?_
    exact g_zret dX7_takes_15 rfl ⟨rfl, by first | rw [if_pos c7] | rw [if_neg c7]⟩
theorem c_wordR (ok : gOK E) (hr : ta ≠ r) (hlt : r < h.2) (hta : h.1 ta = some (aB E 900 tq)) (htq : ∀ j, 0 ≤ j → j < 900 → tq j = tp j) (hT : TPok tp) (hS : STR E x bs) (hP : PSt sz P) (hf : P.2.2.2.2.1 = 0) (hz : sz ≤ 900) : CALL E iX7_word (d + 6) 1 8 [.ref r, .ref x] (hset h r (rdO so la ak ta tx rl sz P)) (qVE (fun k => (nwP tp sz bs P).2.2.2.2.1 = 0 ∧ k = hset h r (rdO so la ak ta tx rl sz (nwP tp sz bs P))) (fun y k => (nwP tp sz bs P).2.2.2.2.1 ≠ 0 ∧ y = h.2 ∧ k = hnew (hset h r (rdO so la ak ta tx rl sz P)) (wrO (nwP tp sz bs P).2.2.2.2.1 (nwP tp sz bs P).2.2.2.2.2.1))) := by
  unfold nwP
  by_cases w : isW tp bs P
  · rw [if_pos w]
    show GO E iX7_word _ _ _ 0 [some (.ref r), some (.ref x)] [] _ _
    refine g_aload_n (q := 1) dX7_word_0 rfl rfl ?_
    refine g_aload_n (q := 2) dX7_word_1 rfl rfl ?_
    refine g_cv (I' := iX7_takes) (mc := 0) (ms := 0) (rc := 1) (rs := 8) (ci := 8) (q := 5) dX7_word_2 q763 q765 rfl qs15 gcX7_takes rd_at (c_takesR (d := d) hr hta htq hT hS hP hf hz) rfl rfl ?_
    refine g_ifneB (t := 13) (q := 8) dX7_word_5 (by decide) rfl (fun c5 => ?_) (fun c5 => ?_)
    · exact g_vret dX7_word_13 rfl ⟨hf, by rw [if_pos w]⟩
    · exact absurd w c5
  · rw [if_neg w, if_pos hf]
    show GO E iX7_word _ _ _ 0 [some (.ref r), some (.ref x)] [] _ _
    refine g_aload_n (q := 1) dX7_word_0 rfl rfl ?_
    refine g_aload_n (q := 2) dX7_word_1 rfl rfl ?_
    refine g_cv (I' := iX7_takes) (mc := 0) (ms := 0) (rc := 1) (rs := 8) (ci := 8) (q := 5) dX7_word_2 q763 q765 rfl qs15 gcX7_takes rd_at (c_takesR (d := d) hr hta htq hT hS hP hf hz) rfl rfl ?_
    rw [if_neg w]
    refine g_ifneB (t := 13) (q := 8) dX7_word_5 (by decide) rfl (fun c5 => ?_) (fun c5 => ?_)
    · exact absurd c5 w
    · refine g_aload_n (q := 9) dX7_word_8 rfl rfl ?_
      refine g_iconst (q := 10) dX7_word_9 rfl ?_
      exact g_cvX (I' := iX7_fails) (mc := 1) (ms := 8) (rc := 0) (rs := 0) (ci := 8) dX7_word_10 q718 q720 rfl qs11 gcX7_fails rd_at (GO.deep (c_failsE (d := 0) ok hlt) (by omega)) rfl (fun x10 e10 y10 => ⟨(by decide : (1 : Int) ≠ 0), y10⟩)
theorem c_numberR (ok : gOK E) (hr : ta ≠ r) (hlt : r < h.2) (hta : h.1 ta = some (aB E 900 tq)) (htq : ∀ j, 0 ≤ j → j < 900 → tq j = tp j) (hT : TPok tp) (hP : PSt sz P) (hf : P.2.2.2.2.1 = 0) (hz : sz ≤ 900) (hl : 0 ≤ lw ∧ lw ≤ 5000) (hh : -1 ≤ hi ∧ hi ≤ 5000) : CALL E iX7_number (d + 5) 1 8 [.ref r, vI lw, vI hi] (hset h r (rdO so la ak ta tx rl sz P)) (qE (fun v k => (nuP tp sz lw hi P).2.2.2.2.2.1 = 0 ∧ v = vI (nuP tp sz lw hi P).1 ∧ k = hset h r (rdO so la ak ta tx rl sz (nuP tp sz lw hi P).2)) (fun y k => (nuP tp sz lw hi P).2.2.2.2.2.1 ≠ 0 ∧ y = h.2 ∧ k = hnew (hset h r (rdO so la ak ta tx rl sz P)) (wrO (nuP tp sz lw hi P).2.2.2.2.2.1 (nuP tp sz lw hi P).2.2.2.2.2.2.1))) := by
  have h1 := hP.1
  have h2 := hP.2.1
  have h3 := hP.2.2.1
  have vr : 0 ≤ vX P ∧ vX P ≤ 9999 := by unfold vX; split <;> omega
  unfold nuP
  rw [if_pos hf]
  by_cases w : P.2.2.1 = 2
  · have ev : vX P = min 9999 P.2.2.2.1 := if_pos w
    rw [if_pos w]
    by_cases w2 : lw ≤ P.2.2.2.1 ∧ P.2.2.2.1 ≤ hi
    · have ev2 : vX P = P.2.2.2.1 := by omega
      rw [if_pos w2]
      show GO E iX7_number _ _ _ 0 [some (.ref r), some (vI lw), some (vI hi), none] [] _ _
      refine g_aload_n (q := 1) dX7_number_0 rfl rfl ?_
      refine g_get (C := RX7) (T := TX7) (ci := 8) (k := 9) (q := 4) dX7_number_1 q603 rfl in_X7 (by decide) rd_at rfl rfl ?_
      refine g_iconst (q := 5) dX7_number_4 rfl ?_
      refine g_icmp_eq (t := 13) (q := 8) dX7_number_5 (by decide) rfl (by unfold in32; omega) (by unfold in32; omega) (fun c5 => ?_) (fun c5 => ?_)
      · refine g_aload_n (q := 14) dX7_number_13 rfl rfl ?_
        refine g_get (C := RX7) (T := TX7) (ci := 8) (k := 11) (q := 17) dX7_number_14 q605 rfl in_X7 (by decide) rd_at rfl rfl ?_
        refine g_i2l (q := 18) dX7_number_17 (by unfold in32; omega) rfl ?_
        refine g_iload_n (q := 19) dX7_number_18 rfl rfl ?_
        refine g_i2l (q := 20) dX7_number_19 (by first | assumption | exact in32_gB | exact in32_gCmp | (unfold in32; omega)) rfl ?_
        refine g_iload_n (q := 21) dX7_number_20 rfl rfl ?_
        refine g_i2l (q := 22) dX7_number_21 (by first | assumption | exact in32_gB | exact in32_gCmp | (unfold in32; omega)) rfl ?_
        refine g_csN (I' := iX0_in) (mc := 0) (ms := 0) (rc := 1) (rs := 8) (q := 25) dX7_number_22 q785 q131 gcX0_in (c_inX (by unfold in64; omega) (by unfold in64; omega) (by unfold in64; omega)) rfl rfl ?_
        refine g_ifneB (t := 33) (q := 28) dX7_number_25 (by decide) rfl (fun c25 => ?_) (fun c25 => ?_)
        · refine g_aload_n (q := 34) dX7_number_33 rfl rfl ?_
          refine g_get (C := RX7) (T := TX7) (ci := 8) (k := 11) (q := 37) dX7_number_34 q605 rfl in_X7 (by decide) rd_at rfl rfl ?_
          refine g_istore_n (q := 38) dX7_number_37 gs3 rfl ?_
          refine g_aload_n (q := 39) dX7_number_38 rfl rfl ?_
          refine g_cvV (I' := iX7_next) (mc := 0) (ms := 0) (rc := 1) (rs := 8) (ci := 8) (q := 42) dX7_number_39 q635 q637 rfl qs6 gcX7_next rd_at (GO.deep (c_next (d := 0) hr hta htq hT hz ⟨by omega, by omega⟩) (by omega)) rfl rfl ?_
          refine g_iload_n (q := 43) dX7_number_42 rfl rfl ?_
          exact g_iret dX7_number_43 rfl ⟨hf, by rw [ev2], rfl⟩
        · exact absurd w2 (by omega)
      · exact absurd w c5
    · rw [if_neg w2]
      show GO E iX7_number _ _ _ 0 [some (.ref r), some (vI lw), some (vI hi), none] [] _ _
      refine g_aload_n (q := 1) dX7_number_0 rfl rfl ?_
      refine g_get (C := RX7) (T := TX7) (ci := 8) (k := 9) (q := 4) dX7_number_1 q603 rfl in_X7 (by decide) rd_at rfl rfl ?_
      refine g_iconst (q := 5) dX7_number_4 rfl ?_
      refine g_icmp_eq (t := 13) (q := 8) dX7_number_5 (by decide) rfl (by unfold in32; omega) (by unfold in32; omega) (fun c5 => ?_) (fun c5 => ?_)
      · refine g_aload_n (q := 14) dX7_number_13 rfl rfl ?_
        refine g_get (C := RX7) (T := TX7) (ci := 8) (k := 11) (q := 17) dX7_number_14 q605 rfl in_X7 (by decide) rd_at rfl rfl ?_
        refine g_i2l (q := 18) dX7_number_17 (by unfold in32; omega) rfl ?_
        refine g_iload_n (q := 19) dX7_number_18 rfl rfl ?_
        refine g_i2l (q := 20) dX7_number_19 (by first | assumption | exact in32_gB | exact in32_gCmp | (unfold in32; omega)) rfl ?_
        refine g_iload_n (q := 21) dX7_number_20 rfl rfl ?_
        refine g_i2l (q := 22) dX7_number_21 (by first | assumption | exact in32_gB | exact in32_gCmp | (unfold in32; omega)) rfl ?_
        refine g_csN (I' := iX0_in) (mc := 0) (ms := 0) (rc := 1) (rs := 8) (q := 25) dX7_number_22 q785 q131 gcX0_in (c_inX (by unfold in64; omega) (by unfold in64; omega) (by unfold in64; omega)) rfl rfl ?_
        refine g_ifneB (t := 33) (q := 28) dX7_number_25 (by decide) rfl (fun c25 => ?_) (fun c25 => ?_)
        · exact absurd c25 (by omega)
        · refine g_aload_n (q := 29) dX7_number_28 rfl rfl ?_
          refine g_iconst (q := 30) dX7_number_29 rfl ?_
          exact g_cvX (I' := iX7_fails) (mc := 1) (ms := 8) (rc := 0) (rs := 0) (ci := 8) dX7_number_30 q718 q720 rfl qs11 gcX7_fails rd_at (GO.deep (c_failsE (d := 0) ok hlt) (by omega)) rfl (fun x30 e30 y30 => ⟨(by decide : (2 : Int) ≠ 0), y30⟩)
      · exact absurd w c5
  · rw [if_neg w]
    show GO E iX7_number _ _ _ 0 [some (.ref r), some (vI lw), some (vI hi), none] [] _ _
    refine g_aload_n (q := 1) dX7_number_0 rfl rfl ?_
    refine g_get (C := RX7) (T := TX7) (ci := 8) (k := 9) (q := 4) dX7_number_1 q603 rfl in_X7 (by decide) rd_at rfl rfl ?_
    refine g_iconst (q := 5) dX7_number_4 rfl ?_
    refine g_icmp_eq (t := 13) (q := 8) dX7_number_5 (by decide) rfl (by unfold in32; omega) (by unfold in32; omega) (fun c5 => ?_) (fun c5 => ?_)
    · exact absurd c5 w
    · refine g_aload_n (q := 9) dX7_number_8 rfl rfl ?_
      refine g_iconst (q := 10) dX7_number_9 rfl ?_
      exact g_cvX (I' := iX7_fails) (mc := 1) (ms := 8) (rc := 0) (rs := 0) (ci := 8) dX7_number_10 q718 q720 rfl qs11 gcX7_fails rd_at (GO.deep (c_failsE (d := 0) ok hlt) (by omega)) rfl (fun x10 e10 y10 => ⟨(by decide : (1 : Int) ≠ 0), y10⟩)
theorem c_whichR {a : Nat} (hr : ta ≠ r) (hta : h.1 ta = some (aB E 900 tq)) (htq : ∀ j, 0 ≤ j → j < 900 → tq j = tp j) (hT : TPok tp) (hW : WRD E h a L) (ha : a ≠ r) (hL : L.length ≤ 5) (hP : PSt sz P) (hf : P.2.2.2.2.1 = 0) (hz : sz ≤ 900) : CALL E iX7_which (d + 5) 0 0 [.ref r, .ref a] (hset h r (rdO so la ak ta tx rl sz P)) (qR (vI (whP tp P L)) (hset h r (rdO so la ak ta tx rl sz P))) := by
  obtain ⟨f, c1, hx⟩ := hW
  have c2 : (hset h r (rdO so la ak ta tx rl sz P)).1 a = some (aR E 11 L.length f) := (hset_ne ha).trans c1
  have loop : ∀ (l : List (List Int)) (k : Nat), L.drop k = l → k ≤ L.length → GO E iX7_which (d + 5) 0 0 2 [some (.ref r), some (.ref a), some (vI (k : Int))] [] (hset h r (rdO so la ak ta tx rl sz P)) (qR (vI (k + whP tp P l)) (hset h r (rdO so la ak ta tx rl sz P))) := by
    intro l
    induction l with
    | nil =>
      intro k e hk
      have q : L.length ≤ k := List.drop_eq_nil_iff.mp e
      refine g_iload_n (q := 3) dX7_which_2 rfl rfl ?_
      refine g_aload_n (q := 4) dX7_which_3 rfl rfl ?_
      refine g_alen 11 (q := 5) dX7_which_4 c2 rfl rfl rfl ?_
      refine g_icmp_ge (t := 24) (q := 8) dX7_which_5 (by decide) rfl (by first | assumption | exact in32_gB | exact in32_gCmp | (unfold in32; omega)) (by first | assumption | exact in32_gB | exact in32_gCmp | (unfold in32; omega)) (fun c5 => ?_) (fun c5 => ?_)
      · refine g_iload_n (q := 25) dX7_which_24 rfl rfl ?_
        exact g_iret dX7_which_25 rfl ⟨rI (by unfold whP; omega), rfl⟩
      · exact absurd c5 (by omega)
    | cons b l ih =>
      intro k e hk
      have hlt : k < L.length := by
        rcases Nat.lt_or_ge k L.length with w | w
        · exact w
        · rw [List.drop_eq_nil_iff.mpr w] at e; cases e
      obtain ⟨x, fx, hS⟩ := hx k hlt
      have e1 : L.getD k [] = b := by
        rw [List.getD_eq_getElem?_getD, List.getElem?_eq_getElem hlt]
        rw [List.drop_eq_getElem_cons hlt] at e
        exact (List.cons.inj e).1
      have e2 : L.drop (k + 1) = l := by
        rw [List.drop_eq_getElem_cons hlt] at e
        exact (List.cons.inj e).2
      rw [e1] at hS
      refine g_iload_n (q := 3) dX7_which_2 rfl rfl ?_
      refine g_aload_n (q := 4) dX7_which_3 rfl rfl ?_
      refine g_alen 11 (q := 5) dX7_which_4 c2 rfl rfl rfl ?_
      refine g_icmp_ge (t := 24) (q := 8) dX7_which_5 (by decide) rfl (by first | assumption | exact in32_gB | exact in32_gCmp | (unfold in32; omega)) (by first | assumption | exact in32_gB | exact in32_gCmp | (unfold in32; omega)) (fun c5 => ?_) (fun c5 => ?_)
      · exact absurd c5 (by omega)
      · refine g_aload_n (q := 9) dX7_which_8 rfl rfl ?_
        refine g_aload_n (q := 10) dX7_which_9 rfl rfl ?_
        refine g_iload_n (q := 11) dX7_which_10 rfl rfl ?_
        refine g_aald (t0 := 11) (q := 12) dX7_which_11 c2 rfl rfl (by omega) (by omega) rfl ?_
        rw [fx]
        refine g_cv (I' := iX7_is) (mc := 0) (ms := 0) (rc := 0) (rs := 0) (ci := 8) (q := 15) dX7_which_12 q654 q656 rfl qs10 gcX7_is rd_at (c_isR (d := d) hr hta htq hT hS hP hf hz) rfl rfl ?_
        refine g_ifneB (t := 24) (q := 18) dX7_which_15 (by decide) rfl (fun c15 => ?_) (fun c15 => ?_)
        · refine g_iload_n (q := 25) dX7_which_24 rfl rfl ?_
          exact g_iret dX7_which_25 rfl ⟨rI (by rw [show whP tp P (b :: l) = 0 from if_pos c15]; omega), rfl⟩
        · refine g_iinc (q := 21) dX7_which_18 rfl gs2 rfl ?_
          refine g_goto (t := 2) dX7_which_21 (by decide) ?_
          have z := ih (k + 1) e2 (by omega)
          rw [show ((k + 1 : Nat) : Int) = (k : Int) + 1 by omega] at z
          rw [show whP tp P (b :: l) = 1 + whP tp P l from if_neg c15, show (k : Int) + (1 + whP tp P l) = (k : Int) + 1 + whP tp P l by omega]
          exact z
  have z := loop L 0 rfl (Nat.zero_le _)
  rw [show ((0 : Nat) : Int) + whP tp P L = whP tp P L from Int.zero_add _] at z
  show GO E iX7_which _ _ _ 0 [some (.ref r), some (.ref a), none] [] _ _
  refine g_iconst (q := 1) dX7_which_0 rfl ?_
  refine g_istore_n (q := 2) dX7_which_1 gs2 rfl ?_
  exact z
theorem sr_wh : srP tp P = if whP tp P lSorts = 4 then -1 else whP tp P lSorts := by
  have e0 : whP tp P lSorts = (if isW tp wNext P then 0 else 1 + (if isW tp wBack P then 0 else 1 + (if isW tp wOff P then 0 else 1 + (if isW tp wPlace P then 0 else 1 + 0)))) := rfl
  generalize whP tp P lSorts = v at e0 ⊢
  unfold srP
  by_cases c0 : isW tp wNext P
  · rw [if_pos c0] at e0 ⊢; subst e0; rfl
  · rw [if_neg c0] at e0 ⊢
    by_cases c1 : isW tp wBack P
    · rw [if_pos c1] at e0 ⊢; subst e0; rfl
    · rw [if_neg c1] at e0 ⊢
      by_cases c2 : isW tp wOff P
      · rw [if_pos c2] at e0 ⊢; subst e0; rfl
      · rw [if_neg c2] at e0 ⊢
        by_cases c3 : isW tp wPlace P
        · rw [if_pos c3] at e0 ⊢; subst e0; rfl
        · rw [if_neg c3] at e0 ⊢
          subst e0; rfl
theorem ask_wh : askP tp P = if whP tp P lAsks = 5 then 0 else whP tp P lAsks + 1 := by
  have e0 : whP tp P lAsks = (if isW tp wHas P then 0 else 1 + (if isW tp wLeft P then 0 else 1 + (if isW tp wEasy P then 0 else 1 + (if isW tp wTired P then 0 else 1 + (if isW tp wHour P then 0 else 1 + 0))))) := rfl
  generalize whP tp P lAsks = v at e0 ⊢
  unfold askP
  by_cases c0 : isW tp wHas P
  · rw [if_pos c0] at e0 ⊢; subst e0; rfl
  · rw [if_neg c0] at e0 ⊢
    by_cases c1 : isW tp wLeft P
    · rw [if_pos c1] at e0 ⊢; subst e0; rfl
    · rw [if_neg c1] at e0 ⊢
      by_cases c2 : isW tp wEasy P
      · rw [if_pos c2] at e0 ⊢; subst e0; rfl
      · rw [if_neg c2] at e0 ⊢
        by_cases c3 : isW tp wTired P
        · rw [if_pos c3] at e0 ⊢; subst e0; rfl
        · rw [if_neg c3] at e0 ⊢
          by_cases c4 : isW tp wHour P
          · rw [if_pos c4] at e0 ⊢; subst e0; rfl
          · rw [if_neg c4] at e0 ⊢
            subst e0; rfl
theorem c_sortR (ok : gOK E) (hr : ta ≠ r) (hlt : r < h.2) (hta : h.1 ta = some (aB E 900 tq)) (htq : ∀ j, 0 ≤ j → j < 900 → tq j = tp j) (hT : TPok tp) (hW : WRD E h so lSorts) (hso : so ≠ r) (hP : PSt sz P) (hf : P.2.2.2.2.1 = 0) (hz : sz ≤ 900) : CALL E iX7_sort (d + 6) 1 8 [.ref r] (hset h r (rdO so la ak ta tx rl sz P)) (qE (fun v k => srP tp P ≠ -1 ∧ v = vI (srP tp P) ∧ k = hset h r (rdO so la ak ta tx rl sz P)) (fun y k => srP tp P = -1 ∧ y = h.2 ∧ k = hnew (hset h r (rdO so la ak ta tx rl sz P)) (wrO 1 P.2.1))) := by
  have e := sr_wh (tp := tp) (P := P)
  have b := whP_in (tp := tp) (P := P) lSorts
  replace b : 0 ≤ whP tp P lSorts ∧ whP tp P lSorts ≤ 4 := b
  by_cases w : whP tp P lSorts = 4
  · rw [if_pos w] at e
    show GO E iX7_sort _ _ _ 0 [some (.ref r), none] [] _ _
    refine g_aload_n (q := 1) dX7_sort_0 rfl rfl ?_
    refine g_aload_n (q := 2) dX7_sort_1 rfl rfl ?_
    refine g_get (C := RX7) (T := TX7) (ci := 8) (k := 0) (q := 5) dX7_sort_2 q593 rfl in_X7 (by decide) rd_at rfl rfl ?_
    refine g_cv (I' := iX7_which) (mc := 0) (ms := 0) (rc := 1) (rs := 8) (ci := 8) (q := 8) dX7_sort_5 q650 q652 rfl qs9 gcX7_which rd_at (c_whichR (d := d) hr hta htq hT hW hso (by decide) hP hf hz) rfl rfl ?_
    refine g_istore_n (q := 9) dX7_sort_8 gs1 rfl ?_
    refine g_iload_n (q := 10) dX7_sort_9 rfl rfl ?_
    refine g_iconst (q := 11) dX7_sort_10 rfl ?_
    refine g_icmp_ne (t := 19) (q := 14) dX7_sort_11 (by decide) rfl (by unfold in32; omega) (by unfold in32; omega) (fun c11 => ?_) (fun c11 => ?_)
    · exact absurd w c11
    · refine g_aload_n (q := 15) dX7_sort_14 rfl rfl ?_
      refine g_iconst (q := 16) dX7_sort_15 rfl ?_
      exact g_cvX (I' := iX7_fails) (mc := 1) (ms := 8) (rc := 0) (rs := 0) (ci := 8) dX7_sort_16 q718 q720 rfl qs11 gcX7_fails rd_at (GO.deep (c_failsE (d := 0) ok hlt) (by omega)) rfl (fun x16 e16 y16 => ⟨e, y16⟩)
  · rw [if_neg w] at e
    show GO E iX7_sort _ _ _ 0 [some (.ref r), none] [] _ _
    refine g_aload_n (q := 1) dX7_sort_0 rfl rfl ?_
    refine g_aload_n (q := 2) dX7_sort_1 rfl rfl ?_
    refine g_get (C := RX7) (T := TX7) (ci := 8) (k := 0) (q := 5) dX7_sort_2 q593 rfl in_X7 (by decide) rd_at rfl rfl ?_
    refine g_cv (I' := iX7_which) (mc := 0) (ms := 0) (rc := 1) (rs := 8) (ci := 8) (q := 8) dX7_sort_5 q650 q652 rfl qs9 gcX7_which rd_at (c_whichR (d := d) hr hta htq hT hW hso (by decide) hP hf hz) rfl rfl ?_
    refine g_istore_n (q := 9) dX7_sort_8 gs1 rfl ?_
    refine g_iload_n (q := 10) dX7_sort_9 rfl rfl ?_
    refine g_iconst (q := 11) dX7_sort_10 rfl ?_
    refine g_icmp_ne (t := 19) (q := 14) dX7_sort_11 (by decide) rfl (by unfold in32; omega) (by unfold in32; omega) (fun c11 => ?_) (fun c11 => ?_)
    · refine g_iload_n (q := 20) dX7_sort_19 rfl rfl ?_
      exact g_iret dX7_sort_20 rfl ⟨by omega, by rw [e], rfl⟩
    · exact absurd c11 w
end
