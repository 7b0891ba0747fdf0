/-! THE REFERENCE: count, feed, end, fault, see -/
set_option maxRecDepth 100000
theorem and255 (b : Int) : (Int32.ofInt b &&& Int32.ofInt 255).toInt = b % 256 := by
  show ((Int32.ofInt b &&& Int32.ofInt 255).toBitVec).toInt = _
  rw [Int32.toBitVec_and, Int32.toBitVec_ofInt, Int32.toBitVec_ofInt]
  have e : (BitVec.ofInt 32 b &&& BitVec.ofInt 32 255).toNat = (b % 256).toNat := by
    rw [BitVec.toNat_and, BitVec.toNat_ofInt]
    have : (BitVec.ofInt 32 255).toNat = 2 ^ 8 - 1 := by decide
    rw [this, Nat.and_two_pow_sub_one_eq_mod]
    omega
  rw [BitVec.toInt_eq_toNat_cond, e]
  omega
def cntL (my : Int → Int) : Nat → Int → Int → Int
  | 0, _, n => n
  | f + 1, s, n => cntL my f (s + 1) (n + if my s = -1 then 0 else 1)
def mCnt (w hs : Int → Int) (td si : Int) (my : Int → Int) (v : Int) : Int := if v = 0 then w 1 else if v = 1 then w 2 else if v = 2 then w 0 else if v = 3 then td else if v = 4 then hs 2016 else if v = 5 then hs 2017 else if v = 6 then si else if v = 7 then w 4 else if 8 ≤ v ∧ v ≤ 11 then w (5 + v - 8) else if v = 12 then cntL my 4 0 0 else -1
abbrev shB (v s : Int) : Int := ((Int32.ofInt v >>> (Int32.ofInt s &&& 31)).toInt).bmod 256
abbrev fdR (g : Int → Int) : Int → Int := fun k => shB (g (k / 4)) (24 - 8 * (k % 4))
def five (a b c d e : Int) : Int → Int := fun j => if j = 0 then a else if j = 1 then b else if j = 2 then c else if j = 3 then d else e
theorem five_e {fv : Int → Int} {a b c d e j : Int} (h0 : 0 ≤ j) (h1 : j < 5) : upI (upI (upI (upI (upI fv 0 a) 1 b) 2 c) 3 d) 4 e j = five a b c d e j := by
  have q : j = 0 ∨ j = 1 ∨ j = 2 ∨ j = 3 ∨ j = 4 := by omega
  rcases q with rfl | rfl | rfl | rfl | rfl <;> rfl
section
variable {E : gE} {d rc rs am : Nat} {G : gH}
variable {th si lo td sz pa fr tk vl fk fp hdt kl kn cd bp bl : Int} {w hs bk iW iH iB iL iS tp fv fsh lt cp md sw nd mn my wd nm mv : Int → Int}
variable {s a b r r2 i k v e B c n l low high t f5 : Int} {Q : Outcome → gH → Prop}
theorem mX11 {g g' : Int → Int} (h : ∀ j : Int, 0 ≤ j → j < 900 → g j = g' j) (H : Heap) (hR : gRel E (mH E G am th w hs si lo bk iW iH iB iL iS g td fv sz pa fr tk vl fk fp fsh hdt lt kl kn cp cd bp bl md sw nd mn my wd nm mv) H) : gRel E (mH E G am th w hs si lo bk iW iH iB iL iS g' td fv sz pa fr tk vl fk fp fsh hdt lt kl kn cp cd bp bl md sw nd mn my wd nm mv) H := by
  refine blk_ext ?_ hR
  intro j hj z
  match j, hj, z with
  | 0, _, z => exact z
  | 1, _, z => exact z
  | 2, _, z => exact z
  | 3, _, z => exact z
  | 4, _, z => exact z
  | 5, _, z => exact z
  | 6, _, z => exact z
  | 7, _, z => exact z
  | 8, _, z => exact z
  | 9, _, z => exact at_aB h z
  | 10, _, z => exact z
  | 11, _, z => exact z
  | 12, _, z => exact z
  | 13, _, z => exact z
  | 14, _, z => exact z
  | 15, _, z => exact z
  | 16, _, z => exact z
  | 17, _, z => exact z
  | 18, _, z => exact z
  | 19, _, z => exact z
  | 20, _, z => exact z
  | 21, _, z => exact z
  | j + 22, hj, _ => omega
theorem c_count (hv : in32 v) (hmy : ∀ s, isSl s → -1 ≤ my s ∧ my s ≤ 60) : CALL E iX6_count d 0 0 [.ref am, vI v] (mH E G am th w hs si lo bk iW iH iB iL iS tp td fv sz pa fr tk vl fk fp fsh hdt lt kl kn cp cd bp bl md sw nd mn my wd nm mv) (qR (vI (mCnt w hs td si my v)) (mH E G am th w hs si lo bk iW iH iB iL iS tp td fv sz pa fr tk vl fk fp fsh hdt lt kl kn cp cd bp bl md sw nd mn my wd nm mv)) := by
  have loop : ∀ (f : Nat) (s n : Int), 0 ≤ s → s + f = 4 → GO E iX6_count d 0 0 138 [some (.ref am), some (vI v), some (vI n), some (vI s)] [] (mH E G am th w hs si lo bk iW iH iB iL iS tp td fv sz pa fr tk vl fk fp fsh hdt lt kl kn cp cd bp bl md sw nd mn my wd nm mv) (qR (vI (cntL my f s n)) (mH E G am th w hs si lo bk iW iH iB iL iS tp td fv sz pa fr tk vl fk fp fsh hdt lt kl kn cp cd bp bl md sw nd mn my wd nm mv)) := by
    intro f
    induction f with
    | zero =>
      intro s n h0 h1
      refine g_iload_n (q := 139) dX6_count_138 rfl rfl ?_
      refine g_iconst (q := 140) dX6_count_139 rfl ?_
      refine g_icmp_ge (t := 167) (q := 143) dX6_count_140 (by decide) rfl (by first | assumption | exact in32_gB | exact in32_gCmp | (unfold in32; omega)) (by first | assumption | exact in32_gB | exact in32_gCmp | (unfold in32; omega)) (fun c140 => ?_) (fun c140 => ?_)
      · refine g_iload_n (q := 168) dX6_count_167 rfl rfl ?_
        exact g_iret dX6_count_168 rfl ⟨rfl, rfl⟩
      · exact absurd c140 (by omega)
    | succ f ih =>
      intro s n h0 h1
      have m1 := hmy s (by omega)
      unfold cntL
      refine g_iload_n (q := 139) dX6_count_138 rfl rfl ?_
      refine g_iconst (q := 140) dX6_count_139 rfl ?_
      refine g_icmp_ge (t := 167) (q := 143) dX6_count_140 (by decide) rfl (by first | assumption | exact in32_gB | exact in32_gCmp | (unfold in32; omega)) (by first | assumption | exact in32_gB | exact in32_gCmp | (unfold in32; omega)) (fun c140 => ?_) (fun c140 => ?_)
      · exact absurd c140 (by omega)
      · refine g_iload_n (q := 144) dX6_count_143 rfl rfl ?_
        refine g_aload_n (q := 145) dX6_count_144 rfl rfl ?_
        refine gm_get (k := 34) (q := 148) dX6_count_145 q1428 (by decide) rfl rfl ?_
        refine g_iload_n (q := 149) dX6_count_148 rfl rfl ?_
        refine g_iald (q := 150) dX6_count_149 mA34 (by omega) (by omega) rfl ?_
        refine g_iconst (q := 151) dX6_count_150 rfl ?_
        refine g_icmp_ne (t := 158) (q := 154) dX6_count_151 (by decide) rfl (by first | assumption | exact in32_gB | exact in32_gCmp | (unfold in32; omega)) (by first | assumption | exact in32_gB | exact in32_gCmp | (unfold in32; omega)) (fun c151 => ?_) (fun c151 => ?_)
        · refine g_iconst (q := 159) dX6_count_158 rfl ?_
          refine g_iadd (q := 160) dX6_count_159 rfl ?_
          refine g_istore_n (q := 161) dX6_count_160 gs2 rfl ?_
          refine g_iinc (q := 164) dX6_count_161 rfl gs3 rfl ?_
          refine g_goto (t := 138) dX6_count_164 (by decide) ?_
          first
          | (rw [if_pos c151]; exact ih _ _ (by omega) (by omega))
          | (rw [if_neg c151]; exact ih _ _ (by omega) (by omega))
        · refine g_iconst (q := 155) dX6_count_154 rfl ?_
          refine g_goto (t := 159) dX6_count_155 (by decide) ?_
          refine g_iadd (q := 160) dX6_count_159 rfl ?_
          refine g_istore_n (q := 161) dX6_count_160 gs2 rfl ?_
          refine g_iinc (q := 164) dX6_count_161 rfl gs3 rfl ?_
          refine g_goto (t := 138) dX6_count_164 (by decide) ?_
          first
          | (rw [if_pos c151]; exact ih _ _ (by omega) (by omega))
          | (rw [if_neg c151]; exact ih _ _ (by omega) (by omega))
  show GO E iX6_count _ _ _ 0 [some (.ref am), some (vI v), none, none] [] _ _
  refine g_iconst (q := 1) dX6_count_0 rfl ?_
  refine g_istore_n (q := 2) dX6_count_1 gs2 rfl ?_
  refine g_iload_n (q := 3) dX6_count_2 rfl rfl ?_
  refine g_tsw dX6_count_3 (by first | assumption | exact in32_gB | exact in32_gCmp | (unfold in32; omega)) (fun c3 => ⟨169, by decide, ?_⟩) (fun j3 c3 c3h => ?_)
  · refine g_iconst (q := 170) dX6_count_169 rfl ?_
    exact g_iret dX6_count_170 rfl ⟨rI (by unfold mCnt; repeat' (first | rw [if_pos (by omega)] | rw [if_neg (by omega)])), rfl⟩
  · rcases j3 with _ | _ | _ | _ | _ | _ | _ | _ | _ | _ | _ | _ | _ | j3
    · refine ⟨65, 68, rfl, by decide, ?_⟩
      refine g_aload_n (q := 69) dX6_count_68 rfl rfl ?_
      refine gm_get (k := 1) (q := 72) dX6_count_69 q1395 (by decide) rfl rfl ?_
      refine g_iconst (q := 73) dX6_count_72 rfl ?_
      refine g_iald (q := 74) dX6_count_73 mA1 (by omega) (by omega) rfl ?_
      exact g_iret dX6_count_74 rfl ⟨rI (by unfold mCnt; repeat' (first | rw [if_pos (by omega)] | rw [if_neg (by omega)])), rfl⟩
    · refine ⟨72, 75, rfl, by decide, ?_⟩
      refine g_aload_n (q := 76) dX6_count_75 rfl rfl ?_
      refine gm_get (k := 1) (q := 79) dX6_count_76 q1395 (by decide) rfl rfl ?_
      refine g_iconst (q := 80) dX6_count_79 rfl ?_
      refine g_iald (q := 81) dX6_count_80 mA1 (by omega) (by omega) rfl ?_
      exact g_iret dX6_count_81 rfl ⟨rI (by unfold mCnt; repeat' (first | rw [if_pos (by omega)] | rw [if_neg (by omega)])), rfl⟩
    · refine ⟨79, 82, rfl, by decide, ?_⟩
      refine g_aload_n (q := 83) dX6_count_82 rfl rfl ?_
      refine gm_get (k := 1) (q := 86) dX6_count_83 q1395 (by decide) rfl rfl ?_
      refine g_iconst (q := 87) dX6_count_86 rfl ?_
      refine g_iald (q := 88) dX6_count_87 mA1 (by omega) (by omega) rfl ?_
      exact g_iret dX6_count_88 rfl ⟨rI (by unfold mCnt; repeat' (first | rw [if_pos (by omega)] | rw [if_neg (by omega)])), rfl⟩
    · refine ⟨86, 89, rfl, by decide, ?_⟩
      refine g_aload_n (q := 90) dX6_count_89 rfl rfl ?_
      refine gm_get (k := 12) (q := 93) dX6_count_90 q1406 (by decide) rfl rfl ?_
      exact g_iret dX6_count_93 rfl ⟨rI (by unfold mCnt; repeat' (first | rw [if_pos (by omega)] | rw [if_neg (by omega)])), rfl⟩
    · refine ⟨91, 94, rfl, by decide, ?_⟩
      refine g_aload_n (q := 95) dX6_count_94 rfl rfl ?_
      refine gm_get (k := 2) (q := 98) dX6_count_95 q1396 (by decide) rfl rfl ?_
      refine g_sipush (q := 101) dX6_count_98 rfl ?_
      refine g_iald (q := 102) dX6_count_101 mA2 (by omega) (by omega) rfl ?_
      exact g_iret dX6_count_102 rfl ⟨rI (by unfold mCnt; repeat' (first | rw [if_pos (by omega)] | rw [if_neg (by omega)])), rfl⟩
    · refine ⟨100, 103, rfl, by decide, ?_⟩
      refine g_aload_n (q := 104) dX6_count_103 rfl rfl ?_
      refine gm_get (k := 2) (q := 107) dX6_count_104 q1396 (by decide) rfl rfl ?_
      refine g_sipush (q := 110) dX6_count_107 rfl ?_
      refine g_iald (q := 111) dX6_count_110 mA2 (by omega) (by omega) rfl ?_
      exact g_iret dX6_count_111 rfl ⟨rI (by unfold mCnt; repeat' (first | rw [if_pos (by omega)] | rw [if_neg (by omega)])), rfl⟩
    · refine ⟨109, 112, rfl, by decide, ?_⟩
      refine g_aload_n (q := 113) dX6_count_112 rfl rfl ?_
      refine gm_get (k := 3) (q := 116) dX6_count_113 q1397 (by decide) rfl rfl ?_
      exact g_iret dX6_count_116 rfl ⟨rI (by unfold mCnt; repeat' (first | rw [if_pos (by omega)] | rw [if_neg (by omega)])), rfl⟩
    · refine ⟨114, 117, rfl, by decide, ?_⟩
      refine g_aload_n (q := 118) dX6_count_117 rfl rfl ?_
      refine gm_get (k := 1) (q := 121) dX6_count_118 q1395 (by decide) rfl rfl ?_
      refine g_iconst (q := 122) dX6_count_121 rfl ?_
      refine g_iald (q := 123) dX6_count_122 mA1 (by omega) (by omega) rfl ?_
      exact g_iret dX6_count_123 rfl ⟨rI (by unfold mCnt; repeat' (first | rw [if_pos (by omega)] | rw [if_neg (by omega)])), rfl⟩
    · refine ⟨121, 124, rfl, by decide, ?_⟩
      refine g_aload_n (q := 125) dX6_count_124 rfl rfl ?_
      refine gm_get (k := 1) (q := 128) dX6_count_125 q1395 (by decide) rfl rfl ?_
      refine g_iconst (q := 129) dX6_count_128 rfl ?_
      refine g_iload_n (q := 130) dX6_count_129 rfl rfl ?_
      refine g_iadd (q := 131) dX6_count_130 rfl ?_
      refine g_bipush (q := 133) dX6_count_131 rfl ?_
      refine g_isub (q := 134) dX6_count_133 rfl ?_
      refine g_iald (q := 135) dX6_count_134 mA1 (by omega) (by omega) rfl ?_
      exact g_iret dX6_count_135 rfl ⟨rI (by unfold mCnt; repeat' (first | rw [if_pos (by omega)] | rw [if_neg (by omega)])), rfl⟩
    · refine ⟨121, 124, rfl, by decide, ?_⟩
      refine g_aload_n (q := 125) dX6_count_124 rfl rfl ?_
      refine gm_get (k := 1) (q := 128) dX6_count_125 q1395 (by decide) rfl rfl ?_
      refine g_iconst (q := 129) dX6_count_128 rfl ?_
      refine g_iload_n (q := 130) dX6_count_129 rfl rfl ?_
      refine g_iadd (q := 131) dX6_count_130 rfl ?_
      refine g_bipush (q := 133) dX6_count_131 rfl ?_
      refine g_isub (q := 134) dX6_count_133 rfl ?_
      refine g_iald (q := 135) dX6_count_134 mA1 (by omega) (by omega) rfl ?_
      exact g_iret dX6_count_135 rfl ⟨rI (by unfold mCnt; repeat' (first | rw [if_pos (by omega)] | rw [if_neg (by omega)])), rfl⟩
    · refine ⟨121, 124, rfl, by decide, ?_⟩
      refine g_aload_n (q := 125) dX6_count_124 rfl rfl ?_
      refine gm_get (k := 1) (q := 128) dX6_count_125 q1395 (by decide) rfl rfl ?_
      refine g_iconst (q := 129) dX6_count_128 rfl ?_
      refine g_iload_n (q := 130) dX6_count_129 rfl rfl ?_
      refine g_iadd (q := 131) dX6_count_130 rfl ?_
      refine g_bipush (q := 133) dX6_count_131 rfl ?_
      refine g_isub (q := 134) dX6_count_133 rfl ?_
      refine g_iald (q := 135) dX6_count_134 mA1 (by omega) (by omega) rfl ?_
      exact g_iret dX6_count_135 rfl ⟨rI (by unfold mCnt; repeat' (first | rw [if_pos (by omega)] | rw [if_neg (by omega)])), rfl⟩
    · refine ⟨121, 124, rfl, by decide, ?_⟩
      refine g_aload_n (q := 125) dX6_count_124 rfl rfl ?_
      refine gm_get (k := 1) (q := 128) dX6_count_125 q1395 (by decide) rfl rfl ?_
      refine g_iconst (q := 129) dX6_count_128 rfl ?_
      refine g_iload_n (q := 130) dX6_count_129 rfl rfl ?_
      refine g_iadd (q := 131) dX6_count_130 rfl ?_
      refine g_bipush (q := 133) dX6_count_131 rfl ?_
      refine g_isub (q := 134) dX6_count_133 rfl ?_
      refine g_iald (q := 135) dX6_count_134 mA1 (by omega) (by omega) rfl ?_
      exact g_iret dX6_count_135 rfl ⟨rI (by unfold mCnt; repeat' (first | rw [if_pos (by omega)] | rw [if_neg (by omega)])), rfl⟩
    · refine ⟨133, 136, rfl, by decide, ?_⟩
      refine g_iconst (q := 137) dX6_count_136 rfl ?_
      refine g_istore_n (q := 138) dX6_count_137 gs3 rfl ?_
      have e : mCnt w hs td si my v = cntL my 4 0 0 := by unfold mCnt; repeat' (first | rw [if_pos (by omega)] | rw [if_neg (by omega)])
      rw [e]
      exact loop 4 0 0 (by omega) (by omega)
    · exact absurd c3h (by omega)
theorem c_feed (hd : 0 ≤ td ∧ td ≤ 880) : CALL E iX6_feed d 0 0 [.ref am, vI a, vI b, vI c, vI n, vI e] (mH E G am th w hs si lo bk iW iH iB iL iS tp td fv sz pa fr tk vl fk fp fsh hdt lt kl kn cp cd bp bl md sw nd mn my wd nm mv) (qR (vI (td + 20)) (mH E G am th w hs si lo bk iW iH iB iL iS (cpyI tp (fdR (five a b c n e)) td 0 20) (td + 20) (upI (upI (upI (upI (upI fv 0 a) 1 b) 2 c) 3 n) 4 e) sz pa fr tk vl fk fp fsh hdt lt kl kn cp cd bp bl md sw nd mn my wd nm mv)) := by
  have loop : ∀ (fv : Int → Int), (∀ j, 0 ≤ j → j < 5 → fv j = five a b c n e j) → ∀ (f : Nat) (i : Int), 0 ≤ i → i + f = 20 → GO E iX6_feed d 0 0 55 [some (.ref am), some (vI a), some (vI b), some (vI c), some (vI n), some (vI e), some (vI i)] [] (mH E G am th w hs si lo bk iW iH iB iL iS (cpyI tp (fdR (five a b c n e)) td 0 i) td fv sz pa fr tk vl fk fp fsh hdt lt kl kn cp cd bp bl md sw nd mn my wd nm mv) (qR (vI (td + 20)) (mH E G am th w hs si lo bk iW iH iB iL iS (cpyI tp (fdR (five a b c n e)) td 0 20) (td + 20) fv sz pa fr tk vl fk fp fsh hdt lt kl kn cp cd bp bl md sw nd mn my wd nm mv)) := by
    intro fv hfv f
    induction f with
    | zero =>
      intro i h2 h3
      obtain rfl : i = 20 := by omega
      refine g_iload (q := 57) dX6_feed_55 rfl rfl ?_
      refine g_bipush (q := 59) dX6_feed_57 rfl ?_
      refine g_icmp_ge (t := 101) (q := 62) dX6_feed_59 (by decide) rfl (by first | assumption | exact in32_gB | exact in32_gCmp | (unfold in32; omega)) (by first | assumption | exact in32_gB | exact in32_gCmp | (unfold in32; omega)) (fun c59 => ?_) (fun c59 => ?_)
      · refine g_aload_n (q := 102) dX6_feed_101 rfl rfl ?_
        refine g_dup (q := 103) dX6_feed_102 rfl ?_
        refine gm_get (k := 12) (q := 106) dX6_feed_103 q1406 (by decide) rfl rfl ?_
        refine g_bipush (q := 108) dX6_feed_106 rfl ?_
        refine g_iadd (q := 109) dX6_feed_108 rfl ?_
        refine gm_put12 (q := 112) dX6_feed_109 q1406 rfl ?_
        refine g_aload_n (q := 113) dX6_feed_112 rfl rfl ?_
        refine gm_get (k := 12) (q := 116) dX6_feed_113 q1406 (by decide) rfl rfl ?_
        exact g_iret dX6_feed_116 rfl ⟨rfl, rfl⟩
      · exact absurd c59 (by decide)
    | succ f ih =>
      intro i h2 h3
      have e3 := cpyI_s (dst := tp) (src := fdR (five a b c n e)) (dO := td) (sO := 0) h2
      rw [Int.zero_add] at e3
      refine g_iload (q := 57) dX6_feed_55 rfl rfl ?_
      refine g_bipush (q := 59) dX6_feed_57 rfl ?_
      refine g_icmp_ge (t := 101) (q := 62) dX6_feed_59 (by decide) rfl (by first | assumption | exact in32_gB | exact in32_gCmp | (unfold in32; omega)) (by first | assumption | exact in32_gB | exact in32_gCmp | (unfold in32; omega)) (fun c59 => ?_) (fun c59 => ?_)
      · exact absurd c59 (by omega)
      · refine g_aload_n (q := 63) dX6_feed_62 rfl rfl ?_
        refine gm_get (k := 11) (q := 66) dX6_feed_63 q1405 (by decide) rfl rfl ?_
        refine g_aload_n (q := 67) dX6_feed_66 rfl rfl ?_
        refine gm_get (k := 12) (q := 70) dX6_feed_67 q1406 (by decide) rfl rfl ?_
        refine g_iload (q := 72) dX6_feed_70 rfl rfl ?_
        refine g_iadd (q := 73) dX6_feed_72 rfl ?_
        refine g_aload_n (q := 74) dX6_feed_73 rfl rfl ?_
        refine gm_get (k := 13) (q := 77) dX6_feed_74 q1407 (by decide) rfl rfl ?_
        refine g_iload (q := 79) dX6_feed_77 rfl rfl ?_
        refine g_iconst (q := 80) dX6_feed_79 rfl ?_
        refine g_idiv (q := 81) dX6_feed_80 (by first | assumption | exact in32_gB | exact in32_gCmp | (unfold in32; omega)) (by first | assumption | exact in32_gB | exact in32_gCmp | (unfold in32; omega)) (by omega) rfl ?_
        rw [Int.tdiv_eq_ediv_of_nonneg h2]
        refine g_iald (q := 82) dX6_feed_81 mA13 (by omega) (by omega) rfl ?_
        rw [hfv (i / 4) (by omega) (by omega)]
        refine g_bipush (q := 84) dX6_feed_82 rfl ?_
        refine g_bipush (q := 86) dX6_feed_84 rfl ?_
        refine g_iload (q := 88) dX6_feed_86 rfl rfl ?_
        refine g_iconst (q := 89) dX6_feed_88 rfl ?_
        refine g_irem (q := 90) dX6_feed_89 (by first | assumption | exact in32_gB | exact in32_gCmp | (unfold in32; omega)) (by first | assumption | exact in32_gB | exact in32_gCmp | (unfold in32; omega)) (by omega) rfl ?_
        rw [Int.tmod_eq_emod_of_nonneg h2]
        refine g_imul (q := 91) dX6_feed_90 rfl ?_
        refine g_isub (q := 92) dX6_feed_91 rfl ?_
        refine g_ishr (q := 93) dX6_feed_92 rfl ?_
        refine GO.topR ?_
        refine g_i2b (q := 94) dX6_feed_93 rfl ?_
        refine gm_st11 (q := 95) dX6_feed_94 (by omega) (by omega) (bm256 _) rfl ?_
        rw [e3]
        refine g_iinc (q := 98) dX6_feed_95 rfl gs6 rfl ?_
        refine g_goto (t := 55) dX6_feed_98 (by decide) ?_
        exact ih _ (by omega) (by omega)
  show GO E iX6_feed _ _ _ 0 [some (.ref am), some (vI a), some (vI b), some (vI c), some (vI n), some (vI e), none] [] _ _
  refine g_aload_n (q := 1) dX6_feed_0 rfl rfl ?_
  refine gm_get (k := 12) (q := 4) dX6_feed_1 q1406 (by decide) rfl rfl ?_
  refine g_bipush (q := 6) dX6_feed_4 rfl ?_
  refine g_iadd (q := 7) dX6_feed_6 rfl ?_
  refine g_sipush (q := 10) dX6_feed_7 rfl ?_
  refine g_icmp_le (t := 15) (q := 13) dX6_feed_10 (by decide) rfl (by first | assumption | exact in32_gB | exact in32_gCmp | (unfold in32; omega)) (by first | assumption | exact in32_gB | exact in32_gCmp | (unfold in32; omega)) (fun c10 => ?_) (fun c10 => ?_)
  · refine g_aload_n (q := 16) dX6_feed_15 rfl rfl ?_
    refine gm_get (k := 13) (q := 19) dX6_feed_16 q1407 (by decide) rfl rfl ?_
    refine g_iconst (q := 20) dX6_feed_19 rfl ?_
    refine g_iload_n (q := 21) dX6_feed_20 rfl rfl ?_
    refine gm_st13 (q := 22) dX6_feed_21 (by omega) (by omega)  rfl ?_
    refine g_aload_n (q := 23) dX6_feed_22 rfl rfl ?_
    refine gm_get (k := 13) (q := 26) dX6_feed_23 q1407 (by decide) rfl rfl ?_
    refine g_iconst (q := 27) dX6_feed_26 rfl ?_
    refine g_iload_n (q := 28) dX6_feed_27 rfl rfl ?_
    refine gm_st13 (q := 29) dX6_feed_28 (by omega) (by omega)  rfl ?_
    refine g_aload_n (q := 30) dX6_feed_29 rfl rfl ?_
    refine gm_get (k := 13) (q := 33) dX6_feed_30 q1407 (by decide) rfl rfl ?_
    refine g_iconst (q := 34) dX6_feed_33 rfl ?_
    refine g_iload_n (q := 35) dX6_feed_34 rfl rfl ?_
    refine gm_st13 (q := 36) dX6_feed_35 (by omega) (by omega)  rfl ?_
    refine g_aload_n (q := 37) dX6_feed_36 rfl rfl ?_
    refine gm_get (k := 13) (q := 40) dX6_feed_37 q1407 (by decide) rfl rfl ?_
    refine g_iconst (q := 41) dX6_feed_40 rfl ?_
    refine g_iload (q := 43) dX6_feed_41 rfl rfl ?_
    refine gm_st13 (q := 44) dX6_feed_43 (by omega) (by omega)  rfl ?_
    refine g_aload_n (q := 45) dX6_feed_44 rfl rfl ?_
    refine gm_get (k := 13) (q := 48) dX6_feed_45 q1407 (by decide) rfl rfl ?_
    refine g_iconst (q := 49) dX6_feed_48 rfl ?_
    refine g_iload (q := 51) dX6_feed_49 rfl rfl ?_
    refine gm_st13 (q := 52) dX6_feed_51 (by omega) (by omega)  rfl ?_
    refine g_iconst (q := 53) dX6_feed_52 rfl ?_
    refine g_istore (q := 55) dX6_feed_53 gs6 rfl ?_
    have := loop _ (fun j q1 q2 => five_e (fv := fv) q1 q2) 20 0 (by omega) (by omega)
    rw [cpyI_0] at this
    exact this
  · exact absurd c10 (by omega)
theorem c_feed_full (hd : 880 < td ∧ td ≤ 900) : CALL E iX6_feed d 0 0 [.ref am, vI a, vI b, vI c, vI n, vI e] (mH E G am th w hs si lo bk iW iH iB iL iS tp td fv sz pa fr tk vl fk fp fsh hdt lt kl kn cp cd bp bl md sw nd mn my wd nm mv) (qR (vI (-1)) (mH E G am th w hs si lo bk iW iH iB iL iS tp td fv sz pa fr tk vl fk fp fsh hdt lt kl kn cp cd bp bl md sw nd mn my wd nm mv)) := by
  show GO E iX6_feed _ _ _ 0 [some (.ref am), some (vI a), some (vI b), some (vI c), some (vI n), some (vI e), none] [] _ _
  refine g_aload_n (q := 1) dX6_feed_0 rfl rfl ?_
  refine gm_get (k := 12) (q := 4) dX6_feed_1 q1406 (by decide) rfl rfl ?_
  refine g_bipush (q := 6) dX6_feed_4 rfl ?_
  refine g_iadd (q := 7) dX6_feed_6 rfl ?_
  refine g_sipush (q := 10) dX6_feed_7 rfl ?_
  refine g_icmp_le (t := 15) (q := 13) dX6_feed_10 (by decide) rfl (by first | assumption | exact in32_gB | exact in32_gCmp | (unfold in32; omega)) (by first | assumption | exact in32_gB | exact in32_gCmp | (unfold in32; omega)) (fun c10 => ?_) (fun c10 => ?_)
  · exact absurd c10 (by omega)
  · refine g_iconst (q := 14) dX6_feed_13 rfl ?_
    exact g_iret dX6_feed_14 rfl ⟨rfl, rfl⟩
theorem c_end (hn : in32 n) (hd : 0 ≤ td ∧ td ≤ 900) : CALL E iX6_end (d + 1) 0 0 [.ref am, vI n] (mH E G am th w hs si lo bk iW iH iB iL iS tp td fv sz pa fr tk vl fk fp fsh hdt lt kl kn cp cd bp bl md sw nd mn my wd nm mv) (qR (vI (if 0 ≤ n ∧ n ≤ td then n else -1)) (mH E G am th w hs si lo bk iW iH iB iL iS tp (if 0 ≤ n ∧ n ≤ td then n else td) fv sz pa fr tk vl fk fp fsh hdt lt kl kn cp cd bp bl md sw nd mn my wd nm mv)) := by
  have h1 := hn.1
  have h2 := hn.2
  by_cases z : 0 ≤ n ∧ n ≤ td
  · rw [if_pos z, if_pos z]
    show GO E iX6_end _ _ _ 0 [some (.ref am), some (vI n)] [] _ _
    refine g_iload_n (q := 1) dX6_end_0 rfl rfl ?_
    refine g_i2l (q := 2) dX6_end_1 (by first | assumption | exact in32_gB | exact in32_gCmp | (unfold in32; omega)) rfl ?_
    refine g_lconst0 (q := 3) dX6_end_2 rfl ?_
    refine g_aload_n (q := 4) dX6_end_3 rfl rfl ?_
    refine gm_get (k := 12) (q := 7) dX6_end_4 q1406 (by decide) rfl rfl ?_
    refine g_i2l (q := 8) dX6_end_7 (by first | assumption | exact in32_gB | exact in32_gCmp | (unfold in32; omega)) rfl ?_
    refine g_cs (I' := iX6_in) (mc := 0) (ms := 0) (rc := 0) (rs := 0) (q := 11) dX6_end_8 q1514 q1515 gcX6_in (c_inM (by unfold in64; omega) (by unfold in64; omega) (by unfold in64; omega)) rfl rfl ?_
    refine g_ifneB (t := 16) (q := 14) dX6_end_11 (by decide) rfl (fun c11 => ?_) (fun c11 => ?_)
    · refine g_aload_n (q := 17) dX6_end_16 rfl rfl ?_
      refine g_iload_n (q := 18) dX6_end_17 rfl rfl ?_
      refine gm_put12 (q := 21) dX6_end_18 q1406 rfl ?_
      refine g_iload_n (q := 22) dX6_end_21 rfl rfl ?_
      exact g_iret dX6_end_22 rfl ⟨rfl, rfl⟩
    · exact absurd z c11
  · rw [if_neg z, if_neg z]
    show GO E iX6_end _ _ _ 0 [some (.ref am), some (vI n)] [] _ _
    refine g_iload_n (q := 1) dX6_end_0 rfl rfl ?_
    refine g_i2l (q := 2) dX6_end_1 (by first | assumption | exact in32_gB | exact in32_gCmp | (unfold in32; omega)) rfl ?_
    refine g_lconst0 (q := 3) dX6_end_2 rfl ?_
    refine g_aload_n (q := 4) dX6_end_3 rfl rfl ?_
    refine gm_get (k := 12) (q := 7) dX6_end_4 q1406 (by decide) rfl rfl ?_
    refine g_i2l (q := 8) dX6_end_7 (by first | assumption | exact in32_gB | exact in32_gCmp | (unfold in32; omega)) rfl ?_
    refine g_cs (I' := iX6_in) (mc := 0) (ms := 0) (rc := 0) (rs := 0) (q := 11) dX6_end_8 q1514 q1515 gcX6_in (c_inM (by unfold in64; omega) (by unfold in64; omega) (by unfold in64; omega)) rfl rfl ?_
    refine g_ifneB (t := 16) (q := 14) dX6_end_11 (by decide) rfl (fun c11 => ?_) (fun c11 => ?_)
    · exact absurd c11 z
    · refine g_iconst (q := 15) dX6_end_14 rfl ?_
      exact g_iret dX6_end_15 rfl ⟨rfl, rfl⟩
theorem c_fault (hv : in32 v) : CALL E iX6_fault d 0 0 [.ref am, vI v] (mH E G am th w hs si lo bk iW iH iB iL iS tp td fv sz pa fr tk vl fk fp fsh hdt lt kl kn cp cd bp bl md sw nd mn my wd nm mv) (qR (vI (if v = 0 then fk else if v = 1 then fp else -1)) (mH E G am th w hs si lo bk iW iH iB iL iS tp td fv sz pa fr tk vl fk fp fsh hdt lt kl kn cp cd bp bl md sw nd mn my wd nm mv)) := by
  show GO E iX6_fault _ _ _ 0 [some (.ref am), some (vI v)] [] _ _
  refine g_iload_n (q := 1) dX6_fault_0 rfl rfl ?_
  refine g_if_ne (t := 11) (q := 4) dX6_fault_1 (by decide) rfl (by first | assumption | exact in32_gB | exact in32_gCmp | (unfold in32; omega)) (fun c1 => ?_) (fun c1 => ?_)
  · refine g_iload_n (q := 12) dX6_fault_11 rfl rfl ?_
    refine g_iconst (q := 13) dX6_fault_12 rfl ?_
    refine g_icmp_ne (t := 23) (q := 16) dX6_fault_13 (by decide) rfl (by first | assumption | exact in32_gB | exact in32_gCmp | (unfold in32; omega)) (by first | assumption | exact in32_gB | exact in32_gCmp | (unfold in32; omega)) (fun c13 => ?_) (fun c13 => ?_)
    · refine g_iconst (q := 24) dX6_fault_23 rfl ?_
      exact g_iret dX6_fault_24 rfl ⟨rI (by first | rw [if_pos c1] | rw [if_neg c1, if_pos c13] | rw [if_neg c1, if_neg c13]), rfl⟩
    · refine g_aload_n (q := 17) dX6_fault_16 rfl rfl ?_
      refine gm_get (k := 20) (q := 20) dX6_fault_17 q1414 (by decide) rfl rfl ?_
      refine g_goto (t := 24) dX6_fault_20 (by decide) ?_
      exact g_iret dX6_fault_24 rfl ⟨rI (by first | rw [if_pos c1] | rw [if_neg c1, if_pos c13] | rw [if_neg c1, if_neg c13]), rfl⟩
  · refine g_aload_n (q := 5) dX6_fault_4 rfl rfl ?_
    refine gm_get (k := 19) (q := 8) dX6_fault_5 q1413 (by decide) rfl rfl ?_
    refine g_goto (t := 24) dX6_fault_8 (by decide) ?_
    exact g_iret dX6_fault_24 rfl ⟨rI (by first | rw [if_pos c1] | rw [if_neg c1, if_pos c13] | rw [if_neg c1, if_neg c13]), rfl⟩
def seeV (tp : Int → Int) (sz k : Int) : Int := if k < sz then tp k % 256 else -1
theorem seeV_in {tp : Int → Int} {sz k : Int} : -1 ≤ seeV tp sz k ∧ seeV tp sz k < 256 := by unfold seeV; split <;> omega
theorem c_see (h0 : 0 ≤ k) (h1 : k ≤ 900) (h2 : 0 ≤ sz ∧ sz ≤ 900) : CALL E iX6_see d 0 0 [.ref am, vI k] (mH E G am th w hs si lo bk iW iH iB iL iS tp td fv sz pa fr tk vl fk fp fsh hdt lt kl kn cp cd bp bl md sw nd mn my wd nm mv) (qR (vI (seeV tp sz k)) (mH E G am th w hs si lo bk iW iH iB iL iS tp td fv sz pa fr tk vl fk fp fsh hdt lt kl kn cp cd bp bl md sw nd mn my wd nm mv)) := by
  show GO E iX6_see _ _ _ 0 [some (.ref am), some (vI k)] [] _ _
  refine g_iload_n (q := 1) dX6_see_0 rfl rfl ?_
  refine g_aload_n (q := 2) dX6_see_1 rfl rfl ?_
  refine gm_get (k := 14) (q := 5) dX6_see_2 q1408 (by decide) rfl rfl ?_
  refine g_icmp_ge (t := 21) (q := 8) dX6_see_5 (by decide) rfl (by first | assumption | exact in32_gB | exact in32_gCmp | (unfold in32; omega)) (by first | assumption | exact in32_gB | exact in32_gCmp | (unfold in32; omega)) (fun c5 => ?_) (fun c5 => ?_)
  · refine g_iconst (q := 22) dX6_see_21 rfl ?_
    exact g_iret dX6_see_22 rfl ⟨rI (by unfold seeV; first | rw [if_pos c5] | rw [if_neg (by omega)]), rfl⟩
  · refine g_aload_n (q := 9) dX6_see_8 rfl rfl ?_
    refine gm_get (k := 11) (q := 12) dX6_see_9 q1405 (by decide) rfl rfl ?_
    refine g_iload_n (q := 13) dX6_see_12 rfl rfl ?_
    refine g_bald (q := 14) dX6_see_13 mA11 (by omega) (by omega) rfl ?_
    refine g_sipush (q := 17) dX6_see_14 rfl ?_
    refine g_iand (q := 18) dX6_see_17 rfl ?_
    refine GO.topR ?_
    rw [and255]
    refine g_goto (t := 22) dX6_see_18 (by decide) ?_
    exact g_iret dX6_see_22 rfl ⟨rI (by unfold seeV; first | rw [if_pos c5] | rw [if_neg (by omega)]), rfl⟩
end
