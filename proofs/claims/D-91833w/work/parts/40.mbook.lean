/-! THE REFERENCE: book -/
set_option maxRecDepth 100000
/-- sittings with a row: how many, the first, the last -/
def bokL (bk : Int → Int) (r : Int) : Nat → Int → Int × Int × Int → Int × Int × Int
  | 0, _, p => p
  | f + 1, i, p => bokL bk r f (i + 1) (if bk (6 * i) = r then (p.1 + 1, if p.2.1 = -1 then i else p.2.1, i) else p)
def mBook (bk : Int → Int) (si r v : Int) : Int :=
  if (bokL bk r si.toNat 0 (0, -1, -1)).1 < 2 then -1 else if v = 0 then (bokL bk r si.toNat 0 (0, -1, -1)).1 else if v = 1 then bk (6 * (bokL bk r si.toNat 0 (0, -1, -1)).2.1 + 1) else if v = 2 then bk (6 * (bokL bk r si.toNat 0 (0, -1, -1)).2.2 + 1)
  else bk (6 * (bokL bk r si.toNat 0 (0, -1, -1)).2.2 + 2) - bk (6 * (bokL bk r si.toNat 0 (0, -1, -1)).2.1 + 2)
theorem bokL_ok {bk : Int → Int} {r : Int} : ∀ (f : Nat) (i : Int) (p : Int × Int × Int), 0 ≤ i → (0 ≤ p.1 ∧ p.1 ≤ i) → (p.1 = 0 ∧ p.2.1 = -1 ∧ p.2.2 = -1 ∨ 0 ≤ p.2.1 ∧ p.2.1 < i ∧ 0 ≤ p.2.2 ∧ p.2.2 < i) → (0 ≤ (bokL bk r f i p).1 ∧ (bokL bk r f i p).1 ≤ i + f) ∧ ((bokL bk r f i p).1 = 0 ∧ (bokL bk r f i p).2.1 = -1 ∧ (bokL bk r f i p).2.2 = -1 ∨ 0 ≤ (bokL bk r f i p).2.1 ∧ (bokL bk r f i p).2.1 < i + f ∧ 0 ≤ (bokL bk r f i p).2.2 ∧ (bokL bk r f i p).2.2 < i + f) := by
  intro f
  induction f with
  | zero => intro i p h0 h1 h2; unfold bokL; omega
  | succ f ih =>
    intro i p h0 h1 h2
    unfold bokL
    have key : ∀ q : Int × Int × Int, (0 ≤ q.1 ∧ q.1 ≤ i + 1) → (q.1 = 0 ∧ q.2.1 = -1 ∧ q.2.2 = -1 ∨ 0 ≤ q.2.1 ∧ q.2.1 < i + 1 ∧ 0 ≤ q.2.2 ∧ q.2.2 < i + 1) → (0 ≤ (bokL bk r f (i + 1) q).1 ∧ (bokL bk r f (i + 1) q).1 ≤ i + (f + 1 : Nat)) ∧ ((bokL bk r f (i + 1) q).1 = 0 ∧ (bokL bk r f (i + 1) q).2.1 = -1 ∧ (bokL bk r f (i + 1) q).2.2 = -1 ∨ 0 ≤ (bokL bk r f (i + 1) q).2.1 ∧ (bokL bk r f (i + 1) q).2.1 < i + (f + 1 : Nat) ∧ 0 ≤ (bokL bk r f (i + 1) q).2.2 ∧ (bokL bk r f (i + 1) q).2.2 < i + (f + 1 : Nat)) := fun q q1 q2 => by
      have := ih (i + 1) q (by omega) q1 q2
      omega
    by_cases c : bk (6 * i) = r
    · rw [if_pos c]
      refine key _ ?_ ?_
      · show 0 ≤ p.1 + 1 ∧ p.1 + 1 ≤ i + 1; omega
      · show (p.1 + 1 = 0 ∧ _) ∨ (0 ≤ (if p.2.1 = -1 then i else p.2.1) ∧ (if p.2.1 = -1 then i else p.2.1) < i + 1 ∧ 0 ≤ i ∧ i < i + 1)
        by_cases c2 : p.2.1 = -1
        · rw [if_pos c2]; omega
        · rw [if_neg c2]; omega
    · rw [if_neg c]; exact key _ (by omega) (by omega)
section
variable {E : gE} {d rc rs am : Nat} {G : gH}
variable {th si lo td sz pa fr tk vl fk fp hdt kl kn cd bp bl : Int} {w hs bk iW iH iB iL iS tp fv fsh lt cp md sw nd mn my wd nm mv : Int → Int}
variable {s a b r r2 i k v e B c n l left days dg : Int} {Q : Outcome → gH → Prop}
theorem c_book (hbk : ∀ j, 0 ≤ j → j < 360 → in32 (bk j)) (hho : ∀ j, 0 ≤ j → j < si → 0 ≤ bk (6 * j + 2) ∧ bk (6 * j + 2) ≤ 1000000000) (hs0 : 0 ≤ si ∧ si ≤ 60) (hw : 0 ≤ w 2 ∧ w 2 ≤ 12) (h1 : in32 r) (h2 : in32 v) : CALL E iX6_book (d + 2) 0 0 [.ref am, vI r, vI v] (mH E G am th w hs si lo bk iW iH iB iL iS tp td fv sz pa fr tk vl fk fp fsh hdt lt kl kn cp cd bp bl md sw nd mn my wd nm mv) (qR (vI (if (0 ≤ r ∧ r ≤ w 2 - 1) ∧ (0 ≤ v ∧ v ≤ 3) then mBook bk si r v else -1)) (mH E G am th w hs si lo bk iW iH iB iL iS tp td fv sz pa fr tk vl fk fp fsh hdt lt kl kn cp cd bp bl md sw nd mn my wd nm mv)) := by
  have h3 := h2.1
  have h4 := h2.2
  by_cases z : (0 ≤ r ∧ r ≤ w 2 - 1) ∧ (0 ≤ v ∧ v ≤ 3)
  · rw [if_pos z]
    unfold mBook
    have ok := bokL_ok (bk := bk) (r := r) si.toNat 0 (0, -1, -1) (by omega) (by decide) (Or.inl ⟨rfl, rfl, rfl⟩)
    generalize eP : bokL bk r si.toNat 0 (0, -1, -1) = P at *
    have loop : ∀ (f : Nat) (i n a b : Int), 0 ≤ i → i + f = si → 0 ≤ n → n ≤ i → bokL bk r f i (n, a, b) = P → (-1 ≤ a ∧ a < i) → (-1 ≤ b ∧ b < i) → GO E iX6_book (d + 2) 0 0 33 [some (.ref am), some (vI r), some (vI v), some (vI n), some (vI a), some (vI b), some (vI i)] [] (mH E G am th w hs si lo bk iW iH iB iL iS tp td fv sz pa fr tk vl fk fp fsh hdt lt kl kn cp cd bp bl md sw nd mn my wd nm mv) (qR (vI (if P.1 < 2 then -1 else if v = 0 then P.1 else if v = 1 then bk (6 * P.2.1 + 1) else if v = 2 then bk (6 * P.2.2 + 1) else bk (6 * P.2.2 + 2) - bk (6 * P.2.1 + 2))) (mH E G am th w hs si lo bk iW iH iB iL iS tp td fv sz pa fr tk vl fk fp fsh hdt lt kl kn cp cd bp bl md sw nd mn my wd nm mv)) := by
      intro f
      induction f with
      | zero =>
        intro i n a b q0 q1 q2 q3 q4 q5 q6
        have e : P = (n, a, b) := q4.symm
        subst e
        have ok2 : (0 ≤ n ∧ n ≤ 0 + (si.toNat : Int)) ∧ (n = 0 ∧ a = -1 ∧ b = -1 ∨ 0 ≤ a ∧ a < 0 + (si.toNat : Int) ∧ 0 ≤ b ∧ b < 0 + (si.toNat : Int)) := ok
        show GO _ _ _ _ _ _ _ _ _ (qR (vI (if n < 2 then -1 else if v = 0 then n else if v = 1 then bk (6 * a + 1) else if v = 2 then bk (6 * b + 1) else bk (6 * b + 2) - bk (6 * a + 2))) _)
        refine g_iload (q := 35) dX6_book_33 rfl rfl ?_
        refine g_aload_n (q := 36) dX6_book_35 rfl rfl ?_
        refine gm_get (k := 3) (q := 39) dX6_book_36 q1397 (by decide) rfl rfl ?_
        refine g_icmp_ge (t := 87) (q := 42) dX6_book_39 (by decide) rfl (by first | assumption | exact in32_gB | exact in32_gCmp | (unfold in32; omega)) (by first | assumption | exact in32_gB | exact in32_gCmp | (unfold in32; omega)) (fun c39 => ?_) (fun c39 => ?_)
        · refine g_iload_n (q := 88) dX6_book_87 rfl rfl ?_
          refine g_iconst (q := 89) dX6_book_88 rfl ?_
          refine g_icmp_ge (t := 94) (q := 92) dX6_book_89 (by decide) rfl (by first | assumption | exact in32_gB | exact in32_gCmp | (unfold in32; omega)) (by first | assumption | exact in32_gB | exact in32_gCmp | (unfold in32; omega)) (fun c89 => ?_) (fun c89 => ?_)
          · refine g_iload_n (q := 95) dX6_book_94 rfl rfl ?_
            refine g_if_ne (t := 102) (q := 98) dX6_book_95 (by decide) rfl (by first | assumption | exact in32_gB | exact in32_gCmp | (unfold in32; omega)) (fun c95 => ?_) (fun c95 => ?_)
            · refine g_iload_n (q := 103) dX6_book_102 rfl rfl ?_
              refine g_iconst (q := 104) dX6_book_103 rfl ?_
              refine g_icmp_ne (t := 122) (q := 107) dX6_book_104 (by decide) rfl (by first | assumption | exact in32_gB | exact in32_gCmp | (unfold in32; omega)) (by first | assumption | exact in32_gB | exact in32_gCmp | (unfold in32; omega)) (fun c104 => ?_) (fun c104 => ?_)
              · refine g_iload_n (q := 123) dX6_book_122 rfl rfl ?_
                refine g_iconst (q := 124) dX6_book_123 rfl ?_
                refine g_icmp_ne (t := 142) (q := 127) dX6_book_124 (by decide) rfl (by first | assumption | exact in32_gB | exact in32_gCmp | (unfold in32; omega)) (by first | assumption | exact in32_gB | exact in32_gCmp | (unfold in32; omega)) (fun c124 => ?_) (fun c124 => ?_)
                · refine g_aload_n (q := 143) dX6_book_142 rfl rfl ?_
                  refine gm_get (k := 5) (q := 146) dX6_book_143 q1399 (by decide) rfl rfl ?_
                  refine g_bipush (q := 148) dX6_book_146 rfl ?_
                  refine g_iload (q := 150) dX6_book_148 rfl rfl ?_
                  refine g_imul (q := 151) dX6_book_150 rfl ?_
                  refine g_iconst (q := 152) dX6_book_151 rfl ?_
                  refine g_iadd (q := 153) dX6_book_152 rfl ?_
                  refine g_iald (q := 154) dX6_book_153 mA5 (by omega) (by omega) rfl ?_
                  refine g_aload_n (q := 155) dX6_book_154 rfl rfl ?_
                  refine gm_get (k := 5) (q := 158) dX6_book_155 q1399 (by decide) rfl rfl ?_
                  refine g_bipush (q := 160) dX6_book_158 rfl ?_
                  refine g_iload (q := 162) dX6_book_160 rfl rfl ?_
                  refine g_imul (q := 163) dX6_book_162 rfl ?_
                  refine g_iconst (q := 164) dX6_book_163 rfl ?_
                  refine g_iadd (q := 165) dX6_book_164 rfl ?_
                  refine g_iald (q := 166) dX6_book_165 mA5 (by omega) (by omega) rfl ?_
                  refine g_isub (q := 167) dX6_book_166 rfl ?_
                  exact g_iret dX6_book_167 rfl ⟨rI (by rw [if_neg (show ¬ n < 2 by omega)]; first | rw [if_pos c95] | (rw [if_neg c95]; first | rw [if_pos c104] | (rw [if_neg c104]; first | rw [if_pos c124] | rw [if_neg c124]))), rfl⟩
                · refine g_aload_n (q := 128) dX6_book_127 rfl rfl ?_
                  refine gm_get (k := 5) (q := 131) dX6_book_128 q1399 (by decide) rfl rfl ?_
                  refine g_bipush (q := 133) dX6_book_131 rfl ?_
                  refine g_iload (q := 135) dX6_book_133 rfl rfl ?_
                  refine g_imul (q := 136) dX6_book_135 rfl ?_
                  refine g_iconst (q := 137) dX6_book_136 rfl ?_
                  refine g_iadd (q := 138) dX6_book_137 rfl ?_
                  refine g_iald (q := 139) dX6_book_138 mA5 (by omega) (by omega) rfl ?_
                  refine g_goto (t := 167) dX6_book_139 (by decide) ?_
                  exact g_iret dX6_book_167 rfl ⟨rI (by rw [if_neg (show ¬ n < 2 by omega)]; first | rw [if_pos c95] | (rw [if_neg c95]; first | rw [if_pos c104] | (rw [if_neg c104]; first | rw [if_pos c124] | rw [if_neg c124]))), rfl⟩
              · refine g_aload_n (q := 108) dX6_book_107 rfl rfl ?_
                refine gm_get (k := 5) (q := 111) dX6_book_108 q1399 (by decide) rfl rfl ?_
                refine g_bipush (q := 113) dX6_book_111 rfl ?_
                refine g_iload (q := 115) dX6_book_113 rfl rfl ?_
                refine g_imul (q := 116) dX6_book_115 rfl ?_
                refine g_iconst (q := 117) dX6_book_116 rfl ?_
                refine g_iadd (q := 118) dX6_book_117 rfl ?_
                refine g_iald (q := 119) dX6_book_118 mA5 (by omega) (by omega) rfl ?_
                refine g_goto (t := 167) dX6_book_119 (by decide) ?_
                exact g_iret dX6_book_167 rfl ⟨rI (by rw [if_neg (show ¬ n < 2 by omega)]; first | rw [if_pos c95] | (rw [if_neg c95]; first | rw [if_pos c104] | (rw [if_neg c104]; first | rw [if_pos c124] | rw [if_neg c124]))), rfl⟩
            · refine g_iload_n (q := 99) dX6_book_98 rfl rfl ?_
              refine g_goto (t := 167) dX6_book_99 (by decide) ?_
              exact g_iret dX6_book_167 rfl ⟨rI (by rw [if_neg (show ¬ n < 2 by omega)]; first | rw [if_pos c95] | (rw [if_neg c95]; first | rw [if_pos c104] | (rw [if_neg c104]; first | rw [if_pos c124] | rw [if_neg c124]))), rfl⟩
          · refine g_iconst (q := 93) dX6_book_92 rfl ?_
            exact g_iret dX6_book_93 rfl ⟨rI (if_pos (show n < 2 by omega)).symm, rfl⟩
        · exact absurd c39 (by omega)
      | succ f ih =>
        intro i n a b q0 q1 q2 q3 q4 q5 q6
        have hb := hbk (6 * i) (by omega) (by omega)
        unfold bokL at q4
        refine g_iload (q := 35) dX6_book_33 rfl rfl ?_
        refine g_aload_n (q := 36) dX6_book_35 rfl rfl ?_
        refine gm_get (k := 3) (q := 39) dX6_book_36 q1397 (by decide) rfl rfl ?_
        refine g_icmp_ge (t := 87) (q := 42) dX6_book_39 (by decide) rfl (by first | assumption | exact in32_gB | exact in32_gCmp | (unfold in32; omega)) (by first | assumption | exact in32_gB | exact in32_gCmp | (unfold in32; omega)) (fun c39 => ?_) (fun c39 => ?_)
        · exact absurd c39 (by omega)
        · refine g_aload_n (q := 43) dX6_book_42 rfl rfl ?_
          refine gm_get (k := 5) (q := 46) dX6_book_43 q1399 (by decide) rfl rfl ?_
          refine g_bipush (q := 48) dX6_book_46 rfl ?_
          refine g_iload (q := 50) dX6_book_48 rfl rfl ?_
          refine g_imul (q := 51) dX6_book_50 rfl ?_
          refine g_iald (q := 52) dX6_book_51 mA5 (by omega) (by omega) rfl ?_
          refine g_iload_n (q := 53) dX6_book_52 rfl rfl ?_
          refine g_icmp_eq (t := 59) (q := 56) dX6_book_53 (by decide) rfl (by first | assumption | exact in32_gB | exact in32_gCmp | (unfold in32; omega)) (by first | assumption | exact in32_gB | exact in32_gCmp | (unfold in32; omega)) (fun c53 => ?_) (fun c53 => ?_)
          · refine g_iinc (q := 62) dX6_book_59 rfl gs3 rfl ?_
            refine g_iload (q := 64) dX6_book_62 rfl rfl ?_
            refine g_iconst (q := 65) dX6_book_64 rfl ?_
            refine g_icmp_ne (t := 73) (q := 68) dX6_book_65 (by decide) rfl (by first | assumption | exact in32_gB | exact in32_gCmp | (unfold in32; omega)) (by first | assumption | exact in32_gB | exact in32_gCmp | (unfold in32; omega)) (fun c65 => ?_) (fun c65 => ?_)
            · refine g_iload (q := 75) dX6_book_73 rfl rfl ?_
              refine g_istore (q := 77) dX6_book_75 gs4 rfl ?_
              refine g_iload (q := 79) dX6_book_77 rfl rfl ?_
              refine g_istore (q := 81) dX6_book_79 gs5 rfl ?_
              refine g_iinc (q := 84) dX6_book_81 rfl gs6 rfl ?_
              refine g_goto (t := 33) dX6_book_84 (by decide) ?_
              first
              | (rw [if_neg c53] at q4; exact ih _ _ _ _ (by omega) (by omega) (by omega) (by omega) q4 (by omega) (by omega))
              | (rw [if_pos c53] at q4; have q7 : bokL bk r f (i + 1) (n + 1, (if a = -1 then i else a), i) = P := q4; rw [if_pos c65] at q7; exact ih _ _ _ _ (by omega) (by omega) (by omega) (by omega) q7 (by omega) (by omega))
              | (rw [if_pos c53] at q4; have q7 : bokL bk r f (i + 1) (n + 1, (if a = -1 then i else a), i) = P := q4; rw [if_neg c65] at q7; exact ih _ _ _ _ (by omega) (by omega) (by omega) (by omega) q7 (by omega) (by omega))
            · refine g_iload (q := 70) dX6_book_68 rfl rfl ?_
              refine g_goto (t := 75) dX6_book_70 (by decide) ?_
              refine g_istore (q := 77) dX6_book_75 gs4 rfl ?_
              refine g_iload (q := 79) dX6_book_77 rfl rfl ?_
              refine g_istore (q := 81) dX6_book_79 gs5 rfl ?_
              refine g_iinc (q := 84) dX6_book_81 rfl gs6 rfl ?_
              refine g_goto (t := 33) dX6_book_84 (by decide) ?_
              first
              | (rw [if_neg c53] at q4; exact ih _ _ _ _ (by omega) (by omega) (by omega) (by omega) q4 (by omega) (by omega))
              | (rw [if_pos c53] at q4; have q7 : bokL bk r f (i + 1) (n + 1, (if a = -1 then i else a), i) = P := q4; rw [if_pos c65] at q7; exact ih _ _ _ _ (by omega) (by omega) (by omega) (by omega) q7 (by omega) (by omega))
              | (rw [if_pos c53] at q4; have q7 : bokL bk r f (i + 1) (n + 1, (if a = -1 then i else a), i) = P := q4; rw [if_neg c65] at q7; exact ih _ _ _ _ (by omega) (by omega) (by omega) (by omega) q7 (by omega) (by omega))
          · refine g_goto (t := 81) dX6_book_56 (by decide) ?_
            refine g_iinc (q := 84) dX6_book_81 rfl gs6 rfl ?_
            refine g_goto (t := 33) dX6_book_84 (by decide) ?_
            first
            | (rw [if_neg c53] at q4; exact ih _ _ _ _ (by omega) (by omega) (by omega) (by omega) q4 (by omega) (by omega))
            | (rw [if_pos c53] at q4; have q7 : bokL bk r f (i + 1) (n + 1, (if a = -1 then i else a), i) = P := q4; rw [if_pos c65] at q7; exact ih _ _ _ _ (by omega) (by omega) (by omega) (by omega) q7 (by omega) (by omega))
            | (rw [if_pos c53] at q4; have q7 : bokL bk r f (i + 1) (n + 1, (if a = -1 then i else a), i) = P := q4; rw [if_neg c65] at q7; exact ih _ _ _ _ (by omega) (by omega) (by omega) (by omega) q7 (by omega) (by omega))
    show GO E iX6_book _ _ _ 0 [some (.ref am), some (vI r), some (vI v), none, none, none, none] [] _ _
    refine g_aload_n (q := 1) dX6_book_0 rfl rfl ?_
    refine g_iload_n (q := 2) dX6_book_1 rfl rfl ?_
    refine g_cv (I' := iX6_isRow) (mc := 0) (ms := 0) (rc := 0) (rs := 0) (ci := 7) (q := 5) dX6_book_2 q1651 q1653 rfl qs60 gcX6_isRow mO (c_isRowM h1 hw) rfl rfl ?_
    refine g_ifeqB (t := 20) (q := 8) dX6_book_5 (by decide) rfl (fun c5 => ?_) (fun c5 => ?_)
    · exact absurd z.1 c5
    · refine g_iload_n (q := 9) dX6_book_8 rfl rfl ?_
      refine g_i2l (q := 10) dX6_book_9 (by first | assumption | exact in32_gB | exact in32_gCmp | (unfold in32; omega)) rfl ?_
      refine g_lconst0 (q := 11) dX6_book_10 rfl ?_
      refine g_ldc2 (a := 3) (q := 14) dX6_book_11 q1630 (by decide) rfl ?_
      refine g_cs (I' := iX6_in) (mc := 0) (ms := 0) (rc := 0) (rs := 0) (q := 17) dX6_book_14 q1514 q1515 gcX6_in (c_inM (by unfold in64; omega) (by unfold in64; omega) (by unfold in64; omega)) rfl rfl ?_
      refine g_ifneB (t := 22) (q := 20) dX6_book_17 (by decide) rfl (fun c17 => ?_) (fun c17 => ?_)
      · refine g_iconst (q := 23) dX6_book_22 rfl ?_
        refine g_istore_n (q := 24) dX6_book_23 gs3 rfl ?_
        refine g_iconst (q := 25) dX6_book_24 rfl ?_
        refine g_istore (q := 27) dX6_book_25 gs4 rfl ?_
        refine g_iconst (q := 28) dX6_book_27 rfl ?_
        refine g_istore (q := 30) dX6_book_28 gs5 rfl ?_
        refine g_iconst (q := 31) dX6_book_30 rfl ?_
        refine g_istore (q := 33) dX6_book_31 gs6 rfl ?_
        exact loop si.toNat 0 0 (-1) (-1) (by omega) (by omega) (by omega) (by omega) eP (by omega) (by omega)
      · exact absurd z.2 c17
  · rw [if_neg z]
    show GO E iX6_book _ _ _ 0 [some (.ref am), some (vI r), some (vI v), none, none, none, none] [] _ _
    refine g_aload_n (q := 1) dX6_book_0 rfl rfl ?_
    refine g_iload_n (q := 2) dX6_book_1 rfl rfl ?_
    refine g_cv (I' := iX6_isRow) (mc := 0) (ms := 0) (rc := 0) (rs := 0) (ci := 7) (q := 5) dX6_book_2 q1651 q1653 rfl qs60 gcX6_isRow mO (c_isRowM h1 hw) rfl rfl ?_
    refine g_ifeqB (t := 20) (q := 8) dX6_book_5 (by decide) rfl (fun c5 => ?_) (fun c5 => ?_)
    · refine g_iconst (q := 21) dX6_book_20 rfl ?_
      exact g_iret dX6_book_21 rfl ⟨rfl, rfl⟩
    · refine g_iload_n (q := 9) dX6_book_8 rfl rfl ?_
      refine g_i2l (q := 10) dX6_book_9 (by first | assumption | exact in32_gB | exact in32_gCmp | (unfold in32; omega)) rfl ?_
      refine g_lconst0 (q := 11) dX6_book_10 rfl ?_
      refine g_ldc2 (a := 3) (q := 14) dX6_book_11 q1630 (by decide) rfl ?_
      refine g_cs (I' := iX6_in) (mc := 0) (ms := 0) (rc := 0) (rs := 0) (q := 17) dX6_book_14 q1514 q1515 gcX6_in (c_inM (by unfold in64; omega) (by unfold in64; omega) (by unfold in64; omega)) rfl rfl ?_
      refine g_ifneB (t := 22) (q := 20) dX6_book_17 (by decide) rfl (fun c17 => ?_) (fun c17 => ?_)
      · exact absurd ⟨c5, c17⟩ z
      · refine g_iconst (q := 21) dX6_book_20 rfl ?_
        exact g_iret dX6_book_21 rfl ⟨rfl, rfl⟩
end
