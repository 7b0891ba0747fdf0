/-! THE REFERENCE: slots -/
set_option maxRecDepth 100000
theorem shx56 (v : Int) : ((BitVec.ofInt 64 v <<< 56).sshiftRight 56) = BitVec.ofInt 64 (v.bmod 256) := by
  have h1 := Int.bmod_add_bdiv v 256
  have h2 := Int.bmod_lt (x := v) (m := 256) (by decide)
  have h3 := Int.le_bmod (x := v) (m := 256) (by decide)
  generalize v.bmod 256 = r at h1 h2 h3
  generalize v.bdiv 256 = q at h1
  refine BitVec.eq_of_toInt_eq ?_
  rw [BitVec.toInt_sshiftRight, BitVec.toInt_shiftLeft, BitVec.toInt_ofInt, Nat.shiftLeft_eq, BitVec.toNat_ofInt]
  have e1 : ((((v % ((2 ^ 64 : Nat) : Int)).toNat * 2 ^ 56 : Nat) : Int)).bmod (2 ^ 64) = r * 2 ^ 56 := by
    refine (Int.bmod_eq_iff (by decide)).mpr ⟨by omega, by omega, ?_⟩
    exact ⟨-(q - v / ((2 ^ 64 : Nat) : Int) * 2 ^ 56), by omega⟩
  rw [e1, Int.bmod_eq_of_le (n := r) (by omega) (by omega), Int.shiftRight_eq_div_pow]
  omega
theorem cut56 (v : Int) : (Int64.ofInt v <<< (56 : Int64)) >>> (56 : Int64) = Int64.ofInt (v.bmod 256) := by
  refine Int64.toBitVec_inj.mp ?_
  rw [Int64.toBitVec_shiftRight, Int64.toBitVec_shiftLeft, Int64.toBitVec_ofInt, Int64.toBitVec_ofInt]
  exact shx56 v
theorem shx48 (v : Int) : ((BitVec.ofInt 64 v <<< 48).sshiftRight 48) = BitVec.ofInt 64 (v.bmod 65536) := by
  have h1 := Int.bmod_add_bdiv v 65536
  have h2 := Int.bmod_lt (x := v) (m := 65536) (by decide)
  have h3 := Int.le_bmod (x := v) (m := 65536) (by decide)
  generalize v.bmod 65536 = r at h1 h2 h3
  generalize v.bdiv 65536 = q at h1
  refine BitVec.eq_of_toInt_eq ?_
  rw [BitVec.toInt_sshiftRight, BitVec.toInt_shiftLeft, BitVec.toInt_ofInt, Nat.shiftLeft_eq, BitVec.toNat_ofInt]
  have e1 : ((((v % ((2 ^ 64 : Nat) : Int)).toNat * 2 ^ 48 : Nat) : Int)).bmod (2 ^ 64) = r * 2 ^ 48 := by
    refine (Int.bmod_eq_iff (by decide)).mpr ⟨by omega, by omega, ?_⟩
    exact ⟨-(q - v / ((2 ^ 64 : Nat) : Int) * 2 ^ 48), by omega⟩
  rw [e1, Int.bmod_eq_of_le (n := r) (by omega) (by omega), Int.shiftRight_eq_div_pow]
  omega
theorem cut48 (v : Int) : (Int64.ofInt v <<< (48 : Int64)) >>> (48 : Int64) = Int64.ofInt (v.bmod 65536) := by
  refine Int64.toBitVec_inj.mp ?_
  rw [Int64.toBitVec_shiftRight, Int64.toBitVec_shiftLeft, Int64.toBitVec_ofInt, Int64.toBitVec_ofInt]
  exact shx48 v
theorem shx32 (v : Int) : ((BitVec.ofInt 64 v <<< 32).sshiftRight 32) = BitVec.ofInt 64 (v.bmod 4294967296) := by
  have h1 := Int.bmod_add_bdiv v 4294967296
  have h2 := Int.bmod_lt (x := v) (m := 4294967296) (by decide)
  have h3 := Int.le_bmod (x := v) (m := 4294967296) (by decide)
  generalize v.bmod 4294967296 = r at h1 h2 h3
  generalize v.bdiv 4294967296 = q at h1
  refine BitVec.eq_of_toInt_eq ?_
  rw [BitVec.toInt_sshiftRight, BitVec.toInt_shiftLeft, BitVec.toInt_ofInt, Nat.shiftLeft_eq, BitVec.toNat_ofInt]
  have e1 : ((((v % ((2 ^ 64 : Nat) : Int)).toNat * 2 ^ 32 : Nat) : Int)).bmod (2 ^ 64) = r * 2 ^ 32 := by
    refine (Int.bmod_eq_iff (by decide)).mpr ⟨by omega, by omega, ?_⟩
    exact ⟨-(q - v / ((2 ^ 64 : Nat) : Int) * 2 ^ 32), by omega⟩
  rw [e1, Int.bmod_eq_of_le (n := r) (by omega) (by omega), Int.shiftRight_eq_div_pow]
  omega
theorem cut32 (v : Int) : (Int64.ofInt v <<< (32 : Int64)) >>> (32 : Int64) = Int64.ofInt (v.bmod 4294967296) := by
  refine Int64.toBitVec_inj.mp ?_
  rw [Int64.toBitVec_shiftRight, Int64.toBitVec_shiftLeft, Int64.toBitVec_ofInt, Int64.toBitVec_ofInt]
  exact shx32 v
theorem cut0 (v : Int) : (Int64.ofInt v <<< (0 : Int64)) >>> (0 : Int64) = Int64.ofInt v := by
  refine Int64.toBitVec_inj.mp ?_
  rw [Int64.toBitVec_shiftRight, Int64.toBitVec_shiftLeft, Int64.toBitVec_ofInt]
  show (BitVec.ofInt 64 v <<< 0).sshiftRight 0 = _
  simp
theorem bm256 (v : Int) : -128 ≤ v.bmod 256 ∧ v.bmod 256 < 128 := ⟨Int.le_bmod (x := v) (m := 256) (by decide), Int.bmod_lt (x := v) (m := 256) (by decide)⟩
def cutV (v c : Int) : Int := if c = 0 then v.bmod 256 else if c = 1 then v.bmod 65536 else if c = 2 then v.bmod 4294967296 else v
theorem cutV_in {v c : Int} (h : in64 v) : in64 (cutV v c) := by
  unfold cutV in64
  unfold in64 at h
  have h1 := bm256 v
  have h2 := Int.le_bmod (x := v) (m := 65536) (by decide)
  have h3 := Int.bmod_lt (x := v) (m := 65536) (by decide)
  have h4 := Int.le_bmod (x := v) (m := 4294967296) (by decide)
  have h5 := Int.bmod_lt (x := v) (m := 4294967296) (by decide)
  split
  · omega
  · split
    · omega
    · split <;> omega
theorem at_aL {E : gE} {D : va_G} {n a : Nat} {g g' : Int → Int} {H : Heap} (h : ∀ j : Int, 0 ≤ j → j < n → g j = g' j) (z : va_at D vwCl (a, aL E n g) H) : va_at D vwCl (a, aL E n g') H := by
  have z : H[a]? = some (vp_cell (E.2.1 3) (n, .inr (.inl (fun j => Int64.ofInt (g (j : Int)))))) := z
  show H[a]? = some (vp_cell (E.2.1 3) (n, .inr (.inl (fun j => Int64.ofInt (g' (j : Int))))))
  rw [z, vp_cell_l, vp_cell_l]
  congr 1
  refine arr_ext fun j hj => ?_
  rw [h j (by omega) (by omega)]
theorem at_aB {E : gE} {D : va_G} {n a : Nat} {g g' : Int → Int} {H : Heap} (h : ∀ j : Int, 0 ≤ j → j < n → g j = g' j) (z : va_at D vwCl (a, aB E n g) H) : va_at D vwCl (a, aB E n g') H := by
  have z : H[a]? = some (vp_cell (E.2.1 1) (n, .inl (fun j => Int32.ofInt (g (j : Int))))) := z
  show H[a]? = some (vp_cell (E.2.1 1) (n, .inl (fun j => Int32.ofInt (g' (j : Int)))))
  rw [z, vp_cell_i, vp_cell_i]
  congr 1
  refine arr_ext fun j hj => ?_
  rw [h j (by omega) (by omega)]
abbrev isSl (s : Int) : Prop := 0 ≤ s ∧ s ≤ 3
def rowV (s c n : Int) : Int := if isSl s ∧ (0 ≤ c ∧ c ≤ 3) ∧ n ≤ 60 then (if n < 0 then -3 else 0) else -2
def wrV (my : Int → Int) (s i : Int) : Int := if isSl s then if my s = -1 then -6 else if 0 ≤ i ∧ i ≤ my s - 1 then 0 else -7 else -2
def pstV (my wd : Int → Int) (s i t k n : Int) : Int := if isSl s ∧ isSl t then if my s = -1 ∨ my t = -1 then -6 else if wd s = wd t then if 0 ≤ i ∧ 0 ≤ k ∧ 0 ≤ n ∧ i + n ≤ my s ∧ k + n ≤ my t then 0 else -7 else -8 else -2
section
variable {E : gE} {d rc rs am : Nat} {G : gH}
variable {th si lo td sz pa fr tk vl fk fp hdt kl kn cd bp bl : Int} {w hs bk iW iH iB iL iS tp fv fsh lt cp md sw nd mn my wd nm mv : Int → Int}
variable {s a b r r2 i k v e B c n l low high t : Int} {Q : Outcome → gH → Prop} {uN : Int → Int → Int}
theorem mX36 {g g' : Int → Int} (h : ∀ j : Int, 0 ≤ j → j < 240 → g j = g' j) (H : Heap) (hR : gRel E (mH E G am th w hs si lo bk iW iH iB iL iS tp td fv sz pa fr tk vl fk fp fsh hdt lt kl kn cp cd bp bl md sw nd mn my wd g mv) H) : gRel E (mH E G am th w hs si lo bk iW iH iB iL iS tp td fv sz pa fr tk vl fk fp fsh hdt lt kl kn cp cd bp bl md sw nd mn my wd g' mv) H := by
  refine blk_ext ?_ hR
  intro j hj z
  match j, hj, z with
  | 0, _, z => exact z
  | 1, _, z => exact z
  | 2, _, z => exact z
  | 3, _, z => exact z
  | 4, _, z => exact z
  | 5, _, z => exact z
  | 6, _, z => exact z
  | 7, _, z => exact z
  | 8, _, z => exact z
  | 9, _, z => exact z
  | 10, _, z => exact z
  | 11, _, z => exact z
  | 12, _, z => exact z
  | 13, _, z => exact z
  | 14, _, z => exact z
  | 15, _, z => exact z
  | 16, _, z => exact z
  | 17, _, z => exact z
  | 18, _, z => exact z
  | 19, _, z => exact z
  | 20, _, z => exact at_aL h z
  | 21, _, z => exact z
  | j + 22, hj, _ => omega
theorem mX37 {g g' : Int → Int} (h : ∀ j : Int, 0 ≤ j → j < 60 → g j = g' j) (H : Heap) (hR : gRel E (mH E G am th w hs si lo bk iW iH iB iL iS tp td fv sz pa fr tk vl fk fp fsh hdt lt kl kn cp cd bp bl md sw nd mn my wd nm g) H) : gRel E (mH E G am th w hs si lo bk iW iH iB iL iS tp td fv sz pa fr tk vl fk fp fsh hdt lt kl kn cp cd bp bl md sw nd mn my wd nm g') H := by
  refine blk_ext ?_ hR
  intro j hj z
  match j, hj, z with
  | 0, _, z => exact z
  | 1, _, z => exact z
  | 2, _, z => exact z
  | 3, _, z => exact z
  | 4, _, z => exact z
  | 5, _, z => exact z
  | 6, _, z => exact z
  | 7, _, z => exact z
  | 8, _, z => exact z
  | 9, _, z => exact z
  | 10, _, z => exact z
  | 11, _, z => exact z
  | 12, _, z => exact z
  | 13, _, z => exact z
  | 14, _, z => exact z
  | 15, _, z => exact z
  | 16, _, z => exact z
  | 17, _, z => exact z
  | 18, _, z => exact z
  | 19, _, z => exact z
  | 20, _, z => exact z
  | 21, _, z => exact at_aL h z
  | j + 22, hj, _ => omega
theorem c_cut {h : gH} (hc : 0 ≤ c ∧ c ≤ 3) : CALL E iX6_cut d 0 0 [vL v, vI c] h (qR (vL (cutV v c)) h) := by
  have q : c = 0 ∨ c = 1 ∨ c = 2 ∨ c = 3 := by omega
  rcases q with rfl | rfl | rfl | rfl
  · show GO E iX6_cut _ _ _ 0 [some (vL v), none, some (vI 0), none] [] _ _
    refine g_bipush (q := 2) dX6_cut_0 rfl ?_
    refine g_bipush (q := 4) dX6_cut_2 rfl ?_
    refine g_iload_n (q := 5) dX6_cut_4 rfl rfl ?_
    refine g_ishl (q := 6) dX6_cut_5 rfl ?_
    refine GO.topR ?_
    refine g_isub (q := 7) dX6_cut_6 rfl ?_
    refine g_istore_n (q := 8) dX6_cut_7 gs3 rfl ?_
    refine g_lload_n (q := 9) dX6_cut_8 rfl rfl ?_
    refine g_iload_n (q := 10) dX6_cut_9 rfl rfl ?_
    refine g_lshl (q := 11) dX6_cut_10 rfl ?_
    refine g_iload_n (q := 12) dX6_cut_11 rfl rfl ?_
    refine g_lshr (q := 13) dX6_cut_12 rfl ?_
    exact g_lret dX6_cut_13 rfl ⟨congrArg (fun x => Outcome.returned (some (Value.long x))) (cut56 v), rfl⟩
  · show GO E iX6_cut _ _ _ 0 [some (vL v), none, some (vI 1), none] [] _ _
    refine g_bipush (q := 2) dX6_cut_0 rfl ?_
    refine g_bipush (q := 4) dX6_cut_2 rfl ?_
    refine g_iload_n (q := 5) dX6_cut_4 rfl rfl ?_
    refine g_ishl (q := 6) dX6_cut_5 rfl ?_
    refine GO.topR ?_
    refine g_isub (q := 7) dX6_cut_6 rfl ?_
    refine g_istore_n (q := 8) dX6_cut_7 gs3 rfl ?_
    refine g_lload_n (q := 9) dX6_cut_8 rfl rfl ?_
    refine g_iload_n (q := 10) dX6_cut_9 rfl rfl ?_
    refine g_lshl (q := 11) dX6_cut_10 rfl ?_
    refine g_iload_n (q := 12) dX6_cut_11 rfl rfl ?_
    refine g_lshr (q := 13) dX6_cut_12 rfl ?_
    exact g_lret dX6_cut_13 rfl ⟨congrArg (fun x => Outcome.returned (some (Value.long x))) (cut48 v), rfl⟩
  · show GO E iX6_cut _ _ _ 0 [some (vL v), none, some (vI 2), none] [] _ _
    refine g_bipush (q := 2) dX6_cut_0 rfl ?_
    refine g_bipush (q := 4) dX6_cut_2 rfl ?_
    refine g_iload_n (q := 5) dX6_cut_4 rfl rfl ?_
    refine g_ishl (q := 6) dX6_cut_5 rfl ?_
    refine GO.topR ?_
    refine g_isub (q := 7) dX6_cut_6 rfl ?_
    refine g_istore_n (q := 8) dX6_cut_7 gs3 rfl ?_
    refine g_lload_n (q := 9) dX6_cut_8 rfl rfl ?_
    refine g_iload_n (q := 10) dX6_cut_9 rfl rfl ?_
    refine g_lshl (q := 11) dX6_cut_10 rfl ?_
    refine g_iload_n (q := 12) dX6_cut_11 rfl rfl ?_
    refine g_lshr (q := 13) dX6_cut_12 rfl ?_
    exact g_lret dX6_cut_13 rfl ⟨congrArg (fun x => Outcome.returned (some (Value.long x))) (cut32 v), rfl⟩
  · show GO E iX6_cut _ _ _ 0 [some (vL v), none, some (vI 3), none] [] _ _
    refine g_bipush (q := 2) dX6_cut_0 rfl ?_
    refine g_bipush (q := 4) dX6_cut_2 rfl ?_
    refine g_iload_n (q := 5) dX6_cut_4 rfl rfl ?_
    refine g_ishl (q := 6) dX6_cut_5 rfl ?_
    refine GO.topR ?_
    refine g_isub (q := 7) dX6_cut_6 rfl ?_
    refine g_istore_n (q := 8) dX6_cut_7 gs3 rfl ?_
    refine g_lload_n (q := 9) dX6_cut_8 rfl rfl ?_
    refine g_iload_n (q := 10) dX6_cut_9 rfl rfl ?_
    refine g_lshl (q := 11) dX6_cut_10 rfl ?_
    refine g_iload_n (q := 12) dX6_cut_11 rfl rfl ?_
    refine g_lshr (q := 13) dX6_cut_12 rfl ?_
    exact g_lret dX6_cut_13 rfl ⟨congrArg (fun x => Outcome.returned (some (Value.long x))) (cut0 v), rfl⟩
theorem l_row (hk : 0 ≤ s ∧ s ≤ 3) : ∀ (f : Nat) (i : Int), 0 ≤ i → i + f = 60 → (GO E iX6_row d 0 0 78 [some (.ref am), some (vI s), some (vI c), some (vI n), some (vI (60))] [] (mH E G am th w hs si lo bk iW iH iB iL iS tp td fv sz pa fr tk vl fk fp fsh hdt lt kl kn cp cd bp bl md sw nd mn my wd (cpyI nm (fun _ => 0) (60 * s) (0) 60) mv) Q) → GO E iX6_row d 0 0 52 [some (.ref am), some (vI s), some (vI c), some (vI n), some (vI (i))] [] (mH E G am th w hs si lo bk iW iH iB iL iS tp td fv sz pa fr tk vl fk fp fsh hdt lt kl kn cp cd bp bl md sw nd mn my wd (cpyI nm (fun _ => 0) (60 * s) (0) i) mv) Q := by
  intro f
  induction f with
  | zero =>
    intro i h2 h3 kk
    obtain rfl : i = 60 := by omega
    refine g_iload (q := 54) dX6_row_52 rfl rfl ?_
    refine g_bipush (q := 56) dX6_row_54 rfl ?_
    refine g_icmp_ge (t := 78) (q := 59) dX6_row_56 (by decide) rfl (by first | assumption | exact in32_gB | exact in32_gCmp | (unfold in32; omega)) (by first | assumption | exact in32_gB | exact in32_gCmp | (unfold in32; omega)) (fun c56 => ?_) (fun c56 => ?_)
    · exact kk
    · exact absurd c56 (by first | decide | omega)
  | succ f ih =>
    intro i h2 h3 kk
    have e3 := cpyI_s (dst := nm) (src := (fun _ => 0)) (dO := 60 * s) (sO := 0) h2
    try simp only [Int.zero_add] at e3
    refine g_iload (q := 54) dX6_row_52 rfl rfl ?_
    refine g_bipush (q := 56) dX6_row_54 rfl ?_
    refine g_icmp_ge (t := 78) (q := 59) dX6_row_56 (by decide) rfl (by first | assumption | exact in32_gB | exact in32_gCmp | (unfold in32; omega)) (by first | assumption | exact in32_gB | exact in32_gCmp | (unfold in32; omega)) (fun c56 => ?_) (fun c56 => ?_)
    · exact absurd c56 (by omega)
    · refine g_aload_n (q := 60) dX6_row_59 rfl rfl ?_
      refine gm_get (k := 36) (q := 63) dX6_row_60 q1430 (by decide) rfl rfl ?_
      refine g_bipush (q := 65) dX6_row_63 rfl ?_
      refine g_iload_n (q := 66) dX6_row_65 rfl rfl ?_
      refine g_imul (q := 67) dX6_row_66 rfl ?_
      refine g_iload (q := 69) dX6_row_67 rfl rfl ?_
      refine g_iadd (q := 70) dX6_row_69 rfl ?_
      refine g_lconst0 (q := 71) dX6_row_70 rfl ?_
      refine gm_st36 (q := 72) dX6_row_71 (by omega) (by omega)  rfl ?_
      rw [e3]
      refine g_iinc (q := 75) dX6_row_72 rfl gs4 rfl ?_
      refine g_goto (t := 52) dX6_row_75 (by decide) ?_
      exact ih _ (by omega) (by omega) kk
theorem l_row_0 (hk : 0 ≤ s ∧ s ≤ 3) (kk : GO E iX6_row d 0 0 78 [some (.ref am), some (vI s), some (vI c), some (vI n), some (vI (60))] [] (mH E G am th w hs si lo bk iW iH iB iL iS tp td fv sz pa fr tk vl fk fp fsh hdt lt kl kn cp cd bp bl md sw nd mn my wd (cpyI nm (fun _ => 0) (60 * s) (0) 60) mv) Q) : GO E iX6_row d 0 0 52 [some (.ref am), some (vI s), some (vI c), some (vI n), some (vI (0))] [] (mH E G am th w hs si lo bk iW iH iB iL iS tp td fv sz pa fr tk vl fk fp fsh hdt lt kl kn cp cd bp bl md sw nd mn my wd nm mv) Q := by
  have := l_row (E := E) (d := d) (am := am) (G := G) hk 60 0 (by omega) (by omega) kk
  rw [cpyI_0] at this
  exact this
theorem c_row (h1 : in32 s) (h2 : in32 c) (h3 : in32 n) : CALL E iX6_row (d + 2) 0 0 [.ref am, vI s, vI c, vI n] (mH E G am th w hs si lo bk iW iH iB iL iS tp td fv sz pa fr tk vl fk fp fsh hdt lt kl kn cp cd bp bl md sw nd mn my wd (fl 60 uN) mv) (qR (vI (rowV s c n)) (if rowV s c n = 0 then (mH E G am th w hs si lo bk iW iH iB iL iS tp td fv sz pa fr tk vl fk fp fsh hdt lt kl kn cp cd bp bl md sw nd mn (upI my s n) (upI wd s c) (fl 60 (upI uN s (fun _ => 0))) mv) else (mH E G am th w hs si lo bk iW iH iB iL iS tp td fv sz pa fr tk vl fk fp fsh hdt lt kl kn cp cd bp bl md sw nd mn my wd (fl 60 uN) mv))) := by
  have h21 := h2.1
  have h22 := h2.2
  by_cases z : isSl s ∧ (0 ≤ c ∧ c ≤ 3) ∧ n ≤ 60
  · by_cases y : n < 0
    · rw [show rowV s c n = -3 by unfold rowV; rw [if_pos z, if_pos y], if_neg (by decide)]
      show GO E iX6_row _ _ _ 0 [some (.ref am), some (vI s), some (vI c), some (vI n), none] [] _ _
      refine g_iload_n (q := 1) dX6_row_0 rfl rfl ?_
      refine g_cs (I' := iX6_isSlot) (mc := 0) (ms := 0) (rc := 0) (rs := 0) (q := 4) dX6_row_1 q1833 q1834 gcX6_isSlot (c_isSlotM h1) rfl rfl ?_
      refine g_ifeqB (t := 25) (q := 7) dX6_row_4 (by decide) rfl (fun c4 => ?_) (fun c4 => ?_)
      · exact absurd z.1 c4
      · refine g_iload_n (q := 8) dX6_row_7 rfl rfl ?_
        refine g_i2l (q := 9) dX6_row_8 (by first | assumption | exact in32_gB | exact in32_gCmp | (unfold in32; omega)) rfl ?_
        refine g_lconst0 (q := 10) dX6_row_9 rfl ?_
        refine g_ldc2 (a := 3) (q := 13) dX6_row_10 q1630 (by decide) rfl ?_
        refine g_cs (I' := iX6_in) (mc := 0) (ms := 0) (rc := 0) (rs := 0) (q := 16) dX6_row_13 q1514 q1515 gcX6_in (c_inM (by unfold in64; omega) (by unfold in64; omega) (by unfold in64; omega)) rfl rfl ?_
        refine g_ifeqB (t := 25) (q := 19) dX6_row_16 (by decide) rfl (fun c16 => ?_) (fun c16 => ?_)
        · exact absurd z.2.1 c16
        · refine g_iload_n (q := 20) dX6_row_19 rfl rfl ?_
          refine g_bipush (q := 22) dX6_row_20 rfl ?_
          refine g_icmp_le (t := 28) (q := 25) dX6_row_22 (by decide) rfl (by first | assumption | exact in32_gB | exact in32_gCmp | (unfold in32; omega)) (by first | assumption | exact in32_gB | exact in32_gCmp | (unfold in32; omega)) (fun c22 => ?_) (fun c22 => ?_)
          · refine g_iload_n (q := 29) dX6_row_28 rfl rfl ?_
            refine g_if_ge (t := 35) (q := 32) dX6_row_29 (by decide) rfl (by first | assumption | exact in32_gB | exact in32_gCmp | (unfold in32; omega)) (fun c29 => ?_) (fun c29 => ?_)
            · exact absurd y (by omega)
            · refine g_bipush (q := 34) dX6_row_32 rfl ?_
              exact g_iret dX6_row_34 rfl ⟨rfl, rfl⟩
          · exact absurd z.2.2 (by omega)
    · rw [show rowV s c n = 0 by unfold rowV; rw [if_pos z, if_neg y], if_pos rfl]
      show GO E iX6_row _ _ _ 0 [some (.ref am), some (vI s), some (vI c), some (vI n), none] [] _ _
      refine g_iload_n (q := 1) dX6_row_0 rfl rfl ?_
      refine g_cs (I' := iX6_isSlot) (mc := 0) (ms := 0) (rc := 0) (rs := 0) (q := 4) dX6_row_1 q1833 q1834 gcX6_isSlot (c_isSlotM h1) rfl rfl ?_
      refine g_ifeqB (t := 25) (q := 7) dX6_row_4 (by decide) rfl (fun c4 => ?_) (fun c4 => ?_)
      · exact absurd z.1 c4
      · refine g_iload_n (q := 8) dX6_row_7 rfl rfl ?_
        refine g_i2l (q := 9) dX6_row_8 (by first | assumption | exact in32_gB | exact in32_gCmp | (unfold in32; omega)) rfl ?_
        refine g_lconst0 (q := 10) dX6_row_9 rfl ?_
        refine g_ldc2 (a := 3) (q := 13) dX6_row_10 q1630 (by decide) rfl ?_
        refine g_cs (I' := iX6_in) (mc := 0) (ms := 0) (rc := 0) (rs := 0) (q := 16) dX6_row_13 q1514 q1515 gcX6_in (c_inM (by unfold in64; omega) (by unfold in64; omega) (by unfold in64; omega)) rfl rfl ?_
        refine g_ifeqB (t := 25) (q := 19) dX6_row_16 (by decide) rfl (fun c16 => ?_) (fun c16 => ?_)
        · exact absurd z.2.1 c16
        · refine g_iload_n (q := 20) dX6_row_19 rfl rfl ?_
          refine g_bipush (q := 22) dX6_row_20 rfl ?_
          refine g_icmp_le (t := 28) (q := 25) dX6_row_22 (by decide) rfl (by first | assumption | exact in32_gB | exact in32_gCmp | (unfold in32; omega)) (by first | assumption | exact in32_gB | exact in32_gCmp | (unfold in32; omega)) (fun c22 => ?_) (fun c22 => ?_)
          · refine g_iload_n (q := 29) dX6_row_28 rfl rfl ?_
            refine g_if_ge (t := 35) (q := 32) dX6_row_29 (by decide) rfl (by first | assumption | exact in32_gB | exact in32_gCmp | (unfold in32; omega)) (fun c29 => ?_) (fun c29 => ?_)
            · refine g_aload_n (q := 36) dX6_row_35 rfl rfl ?_
              refine gm_get (k := 34) (q := 39) dX6_row_36 q1428 (by decide) rfl rfl ?_
              refine g_iload_n (q := 40) dX6_row_39 rfl rfl ?_
              refine g_iload_n (q := 41) dX6_row_40 rfl rfl ?_
              refine gm_st34 (q := 42) dX6_row_41 (by omega) (by omega)  rfl ?_
              refine g_aload_n (q := 43) dX6_row_42 rfl rfl ?_
              refine gm_get (k := 35) (q := 46) dX6_row_43 q1429 (by decide) rfl rfl ?_
              refine g_iload_n (q := 47) dX6_row_46 rfl rfl ?_
              refine g_iload_n (q := 48) dX6_row_47 rfl rfl ?_
              refine gm_st35 (q := 49) dX6_row_48 (by omega) (by omega)  rfl ?_
              refine g_iconst (q := 50) dX6_row_49 rfl ?_
              refine g_istore (q := 52) dX6_row_50 gs4 rfl ?_
              refine l_row_0 z.1 ?_
              refine GO.heapx (mX36 (fun j h2 h3 => fl_cpy (by omega) h2)) ?_
              refine g_iconst (q := 79) dX6_row_78 rfl ?_
              exact g_iret dX6_row_79 rfl ⟨rfl, rfl⟩
            · exact absurd c29 y
          · exact absurd z.2.2 (by omega)
  · rw [show rowV s c n = -2 by unfold rowV; rw [if_neg z], if_neg (by decide)]
    show GO E iX6_row _ _ _ 0 [some (.ref am), some (vI s), some (vI c), some (vI n), none] [] _ _
    refine g_iload_n (q := 1) dX6_row_0 rfl rfl ?_
    refine g_cs (I' := iX6_isSlot) (mc := 0) (ms := 0) (rc := 0) (rs := 0) (q := 4) dX6_row_1 q1833 q1834 gcX6_isSlot (c_isSlotM h1) rfl rfl ?_
    refine g_ifeqB (t := 25) (q := 7) dX6_row_4 (by decide) rfl (fun c4 => ?_) (fun c4 => ?_)
    · refine g_bipush (q := 27) dX6_row_25 rfl ?_
      exact g_iret dX6_row_27 rfl ⟨rfl, rfl⟩
    · refine g_iload_n (q := 8) dX6_row_7 rfl rfl ?_
      refine g_i2l (q := 9) dX6_row_8 (by first | assumption | exact in32_gB | exact in32_gCmp | (unfold in32; omega)) rfl ?_
      refine g_lconst0 (q := 10) dX6_row_9 rfl ?_
      refine g_ldc2 (a := 3) (q := 13) dX6_row_10 q1630 (by decide) rfl ?_
      refine g_cs (I' := iX6_in) (mc := 0) (ms := 0) (rc := 0) (rs := 0) (q := 16) dX6_row_13 q1514 q1515 gcX6_in (c_inM (by unfold in64; omega) (by unfold in64; omega) (by unfold in64; omega)) rfl rfl ?_
      refine g_ifeqB (t := 25) (q := 19) dX6_row_16 (by decide) rfl (fun c16 => ?_) (fun c16 => ?_)
      · refine g_bipush (q := 27) dX6_row_25 rfl ?_
        exact g_iret dX6_row_27 rfl ⟨rfl, rfl⟩
      · refine g_iload_n (q := 20) dX6_row_19 rfl rfl ?_
        refine g_bipush (q := 22) dX6_row_20 rfl ?_
        refine g_icmp_le (t := 28) (q := 25) dX6_row_22 (by decide) rfl (by first | assumption | exact in32_gB | exact in32_gCmp | (unfold in32; omega)) (by first | assumption | exact in32_gB | exact in32_gCmp | (unfold in32; omega)) (fun c22 => ?_) (fun c22 => ?_)
        · exact absurd ⟨c4, c16, c22⟩ z
        · refine g_bipush (q := 27) dX6_row_25 rfl ?_
          exact g_iret dX6_row_27 rfl ⟨rfl, rfl⟩
theorem c_write (h1 : in32 s) (h2 : in32 i) (hmy : isSl s → -1 ≤ my s ∧ my s ≤ 60) (hwd : isSl s → 0 ≤ wd s ∧ wd s ≤ 3) : CALL E iX6_write (d + 2) 0 0 [.ref am, vI s, vI i, vL v] (mH E G am th w hs si lo bk iW iH iB iL iS tp td fv sz pa fr tk vl fk fp fsh hdt lt kl kn cp cd bp bl md sw nd mn my wd (fl 60 uN) mv) (qR (vI (wrV my s i)) (if wrV my s i = 0 then (mH E G am th w hs si lo bk iW iH iB iL iS tp td fv sz pa fr tk vl fk fp fsh hdt lt kl kn cp cd bp bl md sw nd mn my wd (fl 60 (upI uN s (upI (uN s) i (cutV v (wd s))))) mv) else (mH E G am th w hs si lo bk iW iH iB iL iS tp td fv sz pa fr tk vl fk fp fsh hdt lt kl kn cp cd bp bl md sw nd mn my wd (fl 60 uN) mv))) := by
  have h21 := h2.1
  have h22 := h2.2
  by_cases z : isSl s
  · have m1 := hmy z
    by_cases y : my s = -1
    · rw [show wrV my s i = -6 by unfold wrV; rw [if_pos z, if_pos y], if_neg (by decide)]
      show GO E iX6_write _ _ _ 0 [some (.ref am), some (vI s), some (vI i), some (vL v), none] [] _ _
      refine g_iload_n (q := 1) dX6_write_0 rfl rfl ?_
      refine g_cs (I' := iX6_isSlot) (mc := 0) (ms := 0) (rc := 0) (rs := 0) (q := 4) dX6_write_1 q1833 q1834 gcX6_isSlot (c_isSlotM h1) rfl rfl ?_
      refine g_ifneB (t := 10) (q := 7) dX6_write_4 (by decide) rfl (fun c4 => ?_) (fun c4 => ?_)
      · refine g_aload_n (q := 11) dX6_write_10 rfl rfl ?_
        refine gm_get (k := 34) (q := 14) dX6_write_11 q1428 (by decide) rfl rfl ?_
        refine g_iload_n (q := 15) dX6_write_14 rfl rfl ?_
        refine g_iald (q := 16) dX6_write_15 mA34 (by omega) (by omega) rfl ?_
        refine g_iconst (q := 17) dX6_write_16 rfl ?_
        refine g_icmp_ne (t := 23) (q := 20) dX6_write_17 (by decide) rfl (by first | assumption | exact in32_gB | exact in32_gCmp | (unfold in32; omega)) (by first | assumption | exact in32_gB | exact in32_gCmp | (unfold in32; omega)) (fun c17 => ?_) (fun c17 => ?_)
        · exact absurd y c17
        · refine g_bipush (q := 22) dX6_write_20 rfl ?_
          exact g_iret dX6_write_22 rfl ⟨rfl, rfl⟩
      · exact absurd z c4
    · by_cases x : 0 ≤ i ∧ i ≤ my s - 1
      · rw [show wrV my s i = 0 by unfold wrV; rw [if_pos z, if_neg y, if_pos x], if_pos rfl]
        show GO E iX6_write _ _ _ 0 [some (.ref am), some (vI s), some (vI i), some (vL v), none] [] _ _
        refine g_iload_n (q := 1) dX6_write_0 rfl rfl ?_
        refine g_cs (I' := iX6_isSlot) (mc := 0) (ms := 0) (rc := 0) (rs := 0) (q := 4) dX6_write_1 q1833 q1834 gcX6_isSlot (c_isSlotM h1) rfl rfl ?_
        refine g_ifneB (t := 10) (q := 7) dX6_write_4 (by decide) rfl (fun c4 => ?_) (fun c4 => ?_)
        · refine g_aload_n (q := 11) dX6_write_10 rfl rfl ?_
          refine gm_get (k := 34) (q := 14) dX6_write_11 q1428 (by decide) rfl rfl ?_
          refine g_iload_n (q := 15) dX6_write_14 rfl rfl ?_
          refine g_iald (q := 16) dX6_write_15 mA34 (by omega) (by omega) rfl ?_
          refine g_iconst (q := 17) dX6_write_16 rfl ?_
          refine g_icmp_ne (t := 23) (q := 20) dX6_write_17 (by decide) rfl (by first | assumption | exact in32_gB | exact in32_gCmp | (unfold in32; omega)) (by first | assumption | exact in32_gB | exact in32_gCmp | (unfold in32; omega)) (fun c17 => ?_) (fun c17 => ?_)
          · refine g_iload_n (q := 24) dX6_write_23 rfl rfl ?_
            refine g_i2l (q := 25) dX6_write_24 (by first | assumption | exact in32_gB | exact in32_gCmp | (unfold in32; omega)) rfl ?_
            refine g_lconst0 (q := 26) dX6_write_25 rfl ?_
            refine g_aload_n (q := 27) dX6_write_26 rfl rfl ?_
            refine gm_get (k := 34) (q := 30) dX6_write_27 q1428 (by decide) rfl rfl ?_
            refine g_iload_n (q := 31) dX6_write_30 rfl rfl ?_
            refine g_iald (q := 32) dX6_write_31 mA34 (by omega) (by omega) rfl ?_
            refine g_iconst (q := 33) dX6_write_32 rfl ?_
            refine g_isub (q := 34) dX6_write_33 rfl ?_
            refine g_i2l (q := 35) dX6_write_34 (by first | assumption | exact in32_gB | exact in32_gCmp | (unfold in32; omega)) rfl ?_
            refine g_cs (I' := iX6_in) (mc := 0) (ms := 0) (rc := 0) (rs := 0) (q := 38) dX6_write_35 q1514 q1515 gcX6_in (c_inM (by unfold in64; omega) (by unfold in64; omega) (by unfold in64; omega)) rfl rfl ?_
            refine g_ifneB (t := 44) (q := 41) dX6_write_38 (by decide) rfl (fun c38 => ?_) (fun c38 => ?_)
            · refine g_aload_n (q := 45) dX6_write_44 rfl rfl ?_
              refine gm_get (k := 36) (q := 48) dX6_write_45 q1430 (by decide) rfl rfl ?_
              refine g_bipush (q := 50) dX6_write_48 rfl ?_
              refine g_iload_n (q := 51) dX6_write_50 rfl rfl ?_
              refine g_imul (q := 52) dX6_write_51 rfl ?_
              refine g_iload_n (q := 53) dX6_write_52 rfl rfl ?_
              refine g_iadd (q := 54) dX6_write_53 rfl ?_
              refine g_lload_n (q := 55) dX6_write_54 rfl rfl ?_
              refine g_aload_n (q := 56) dX6_write_55 rfl rfl ?_
              refine gm_get (k := 35) (q := 59) dX6_write_56 q1429 (by decide) rfl rfl ?_
              refine g_iload_n (q := 60) dX6_write_59 rfl rfl ?_
              refine g_iald (q := 61) dX6_write_60 mA35 (by omega) (by omega) rfl ?_
              refine g_cs (I' := iX6_cut) (mc := 0) (ms := 0) (rc := 0) (rs := 0) (q := 64) dX6_write_61 q1909 q1910 gcX6_cut (c_cut (hwd z)) rfl rfl ?_
              refine gm_st36 (q := 65) dX6_write_64 (by omega) (by omega)  rfl ?_
              refine GO.heapx (mX36 (fun j h2 h3 => fl_up (by omega) h2 (by omega) (by omega))) ?_
              refine g_iconst (q := 66) dX6_write_65 rfl ?_
              exact g_iret dX6_write_66 rfl ⟨rfl, rfl⟩
            · exact absurd x c38
          · exact absurd c17 y
        · exact absurd z c4
      · rw [show wrV my s i = -7 by unfold wrV; rw [if_pos z, if_neg y, if_neg x], if_neg (by decide)]
        show GO E iX6_write _ _ _ 0 [some (.ref am), some (vI s), some (vI i), some (vL v), none] [] _ _
        refine g_iload_n (q := 1) dX6_write_0 rfl rfl ?_
        refine g_cs (I' := iX6_isSlot) (mc := 0) (ms := 0) (rc := 0) (rs := 0) (q := 4) dX6_write_1 q1833 q1834 gcX6_isSlot (c_isSlotM h1) rfl rfl ?_
        refine g_ifneB (t := 10) (q := 7) dX6_write_4 (by decide) rfl (fun c4 => ?_) (fun c4 => ?_)
        · refine g_aload_n (q := 11) dX6_write_10 rfl rfl ?_
          refine gm_get (k := 34) (q := 14) dX6_write_11 q1428 (by decide) rfl rfl ?_
          refine g_iload_n (q := 15) dX6_write_14 rfl rfl ?_
          refine g_iald (q := 16) dX6_write_15 mA34 (by omega) (by omega) rfl ?_
          refine g_iconst (q := 17) dX6_write_16 rfl ?_
          refine g_icmp_ne (t := 23) (q := 20) dX6_write_17 (by decide) rfl (by first | assumption | exact in32_gB | exact in32_gCmp | (unfold in32; omega)) (by first | assumption | exact in32_gB | exact in32_gCmp | (unfold in32; omega)) (fun c17 => ?_) (fun c17 => ?_)
          · refine g_iload_n (q := 24) dX6_write_23 rfl rfl ?_
            refine g_i2l (q := 25) dX6_write_24 (by first | assumption | exact in32_gB | exact in32_gCmp | (unfold in32; omega)) rfl ?_
            refine g_lconst0 (q := 26) dX6_write_25 rfl ?_
            refine g_aload_n (q := 27) dX6_write_26 rfl rfl ?_
            refine gm_get (k := 34) (q := 30) dX6_write_27 q1428 (by decide) rfl rfl ?_
            refine g_iload_n (q := 31) dX6_write_30 rfl rfl ?_
            refine g_iald (q := 32) dX6_write_31 mA34 (by omega) (by omega) rfl ?_
            refine g_iconst (q := 33) dX6_write_32 rfl ?_
            refine g_isub (q := 34) dX6_write_33 rfl ?_
            refine g_i2l (q := 35) dX6_write_34 (by first | assumption | exact in32_gB | exact in32_gCmp | (unfold in32; omega)) rfl ?_
            refine g_cs (I' := iX6_in) (mc := 0) (ms := 0) (rc := 0) (rs := 0) (q := 38) dX6_write_35 q1514 q1515 gcX6_in (c_inM (by unfold in64; omega) (by unfold in64; omega) (by unfold in64; omega)) rfl rfl ?_
            refine g_ifneB (t := 44) (q := 41) dX6_write_38 (by decide) rfl (fun c38 => ?_) (fun c38 => ?_)
            · exact absurd c38 x
            · refine g_bipush (q := 43) dX6_write_41 rfl ?_
              exact g_iret dX6_write_43 rfl ⟨rfl, rfl⟩
          · exact absurd c17 y
        · exact absurd z c4
  · rw [show wrV my s i = -2 by unfold wrV; rw [if_neg z], if_neg (by decide)]
    show GO E iX6_write _ _ _ 0 [some (.ref am), some (vI s), some (vI i), some (vL v), none] [] _ _
    refine g_iload_n (q := 1) dX6_write_0 rfl rfl ?_
    refine g_cs (I' := iX6_isSlot) (mc := 0) (ms := 0) (rc := 0) (rs := 0) (q := 4) dX6_write_1 q1833 q1834 gcX6_isSlot (c_isSlotM h1) rfl rfl ?_
    refine g_ifneB (t := 10) (q := 7) dX6_write_4 (by decide) rfl (fun c4 => ?_) (fun c4 => ?_)
    · exact absurd c4 z
    · refine g_bipush (q := 9) dX6_write_7 rfl ?_
      exact g_iret dX6_write_9 rfl ⟨rfl, rfl⟩
theorem l_paste1 (hk : (0 ≤ s ∧ s ≤ 3) ∧ 0 ≤ a ∧ 0 ≤ n ∧ a + n ≤ 60) : ∀ (f : Nat) (i : Int), 0 ≤ i → i + f = n → (GO E iX6_paste d 0 0 147 [some (.ref am), some (vI s), some (vI a), some (vI t), some (vI k), some (vI n), some (vI (n))] [] (mH E G am th w hs si lo bk iW iH iB iL iS tp td fv sz pa fr tk vl fk fp fsh hdt lt kl kn cp cd bp bl md sw nd mn my wd nm (cpyI mv nm (0) (60 * s + a) n)) Q) → GO E iX6_paste d 0 0 113 [some (.ref am), some (vI s), some (vI a), some (vI t), some (vI k), some (vI n), some (vI (i))] [] (mH E G am th w hs si lo bk iW iH iB iL iS tp td fv sz pa fr tk vl fk fp fsh hdt lt kl kn cp cd bp bl md sw nd mn my wd nm (cpyI mv nm (0) (60 * s + a) i)) Q := by
  intro f
  induction f with
  | zero =>
    intro i h2 h3 kk
    obtain rfl : i = n := by omega
    refine g_iload (q := 115) dX6_paste_113 rfl rfl ?_
    refine g_iload (q := 117) dX6_paste_115 rfl rfl ?_
    refine g_icmp_ge (t := 147) (q := 120) dX6_paste_117 (by decide) rfl (by first | assumption | exact in32_gB | exact in32_gCmp | (unfold in32; omega)) (by first | assumption | exact in32_gB | exact in32_gCmp | (unfold in32; omega)) (fun c117 => ?_) (fun c117 => ?_)
    · exact kk
    · exact absurd c117 (by first | decide | omega)
  | succ f ih =>
    intro i h2 h3 kk
    have e3 := cpyI_s (dst := mv) (src := nm) (dO := 0) (sO := 60 * s + a) h2
    try simp only [Int.zero_add] at e3
    refine g_iload (q := 115) dX6_paste_113 rfl rfl ?_
    refine g_iload (q := 117) dX6_paste_115 rfl rfl ?_
    refine g_icmp_ge (t := 147) (q := 120) dX6_paste_117 (by decide) rfl (by first | assumption | exact in32_gB | exact in32_gCmp | (unfold in32; omega)) (by first | assumption | exact in32_gB | exact in32_gCmp | (unfold in32; omega)) (fun c117 => ?_) (fun c117 => ?_)
    · exact absurd c117 (by omega)
    · refine g_aload_n (q := 121) dX6_paste_120 rfl rfl ?_
      refine gm_get (k := 37) (q := 124) dX6_paste_121 q1431 (by decide) rfl rfl ?_
      refine g_iload (q := 126) dX6_paste_124 rfl rfl ?_
      refine g_aload_n (q := 127) dX6_paste_126 rfl rfl ?_
      refine gm_get (k := 36) (q := 130) dX6_paste_127 q1430 (by decide) rfl rfl ?_
      refine g_bipush (q := 132) dX6_paste_130 rfl ?_
      refine g_iload_n (q := 133) dX6_paste_132 rfl rfl ?_
      refine g_imul (q := 134) dX6_paste_133 rfl ?_
      refine g_iload_n (q := 135) dX6_paste_134 rfl rfl ?_
      refine g_iadd (q := 136) dX6_paste_135 rfl ?_
      refine g_iload (q := 138) dX6_paste_136 rfl rfl ?_
      refine g_iadd (q := 139) dX6_paste_138 rfl ?_
      refine g_lald (q := 140) dX6_paste_139 mA36 (by omega) (by omega) rfl ?_
      refine gm_st37 (q := 141) dX6_paste_140 (by omega) (by omega)  rfl ?_
      rw [e3]
      refine g_iinc (q := 144) dX6_paste_141 rfl gs6 rfl ?_
      refine g_goto (t := 113) dX6_paste_144 (by decide) ?_
      exact ih _ (by omega) (by omega) kk
theorem l_paste1_0 (hk : (0 ≤ s ∧ s ≤ 3) ∧ 0 ≤ a ∧ 0 ≤ n ∧ a + n ≤ 60) (kk : GO E iX6_paste d 0 0 147 [some (.ref am), some (vI s), some (vI a), some (vI t), some (vI k), some (vI n), some (vI (n))] [] (mH E G am th w hs si lo bk iW iH iB iL iS tp td fv sz pa fr tk vl fk fp fsh hdt lt kl kn cp cd bp bl md sw nd mn my wd nm (cpyI mv nm (0) (60 * s + a) n)) Q) : GO E iX6_paste d 0 0 113 [some (.ref am), some (vI s), some (vI a), some (vI t), some (vI k), some (vI n), some (vI (0))] [] (mH E G am th w hs si lo bk iW iH iB iL iS tp td fv sz pa fr tk vl fk fp fsh hdt lt kl kn cp cd bp bl md sw nd mn my wd nm mv) Q := by
  have := l_paste1 (E := E) (d := d) (am := am) (G := G) hk (n).toNat 0 (by omega) (by omega) kk
  rw [cpyI_0] at this
  exact this
theorem l_paste2 (hk : (0 ≤ t ∧ t ≤ 3) ∧ 0 ≤ k ∧ 0 ≤ n ∧ k + n ≤ 60) : ∀ (f : Nat) (i : Int), 0 ≤ i → i + f = n → (GO E iX6_paste d 0 0 185 [some (.ref am), some (vI s), some (vI a), some (vI t), some (vI k), some (vI n), some (vI (n))] [] (mH E G am th w hs si lo bk iW iH iB iL iS tp td fv sz pa fr tk vl fk fp fsh hdt lt kl kn cp cd bp bl md sw nd mn my wd (cpyI nm mv (60 * t + k) (0) n) mv) Q) → GO E iX6_paste d 0 0 150 [some (.ref am), some (vI s), some (vI a), some (vI t), some (vI k), some (vI n), some (vI (i))] [] (mH E G am th w hs si lo bk iW iH iB iL iS tp td fv sz pa fr tk vl fk fp fsh hdt lt kl kn cp cd bp bl md sw nd mn my wd (cpyI nm mv (60 * t + k) (0) i) mv) Q := by
  intro f
  induction f with
  | zero =>
    intro i h2 h3 kk
    obtain rfl : i = n := by omega
    refine g_iload (q := 152) dX6_paste_150 rfl rfl ?_
    refine g_iload (q := 154) dX6_paste_152 rfl rfl ?_
    refine g_icmp_ge (t := 185) (q := 157) dX6_paste_154 (by decide) rfl (by first | assumption | exact in32_gB | exact in32_gCmp | (unfold in32; omega)) (by first | assumption | exact in32_gB | exact in32_gCmp | (unfold in32; omega)) (fun c154 => ?_) (fun c154 => ?_)
    · exact kk
    · exact absurd c154 (by first | decide | omega)
  | succ f ih =>
    intro i h2 h3 kk
    have e3 := cpyI_s (dst := nm) (src := mv) (dO := 60 * t + k) (sO := 0) h2
    try simp only [Int.zero_add] at e3
    refine g_iload (q := 152) dX6_paste_150 rfl rfl ?_
    refine g_iload (q := 154) dX6_paste_152 rfl rfl ?_
    refine g_icmp_ge (t := 185) (q := 157) dX6_paste_154 (by decide) rfl (by first | assumption | exact in32_gB | exact in32_gCmp | (unfold in32; omega)) (by first | assumption | exact in32_gB | exact in32_gCmp | (unfold in32; omega)) (fun c154 => ?_) (fun c154 => ?_)
    · exact absurd c154 (by omega)
    · refine g_aload_n (q := 158) dX6_paste_157 rfl rfl ?_
      refine gm_get (k := 36) (q := 161) dX6_paste_158 q1430 (by decide) rfl rfl ?_
      refine g_bipush (q := 163) dX6_paste_161 rfl ?_
      refine g_iload_n (q := 164) dX6_paste_163 rfl rfl ?_
      refine g_imul (q := 165) dX6_paste_164 rfl ?_
      refine g_iload (q := 167) dX6_paste_165 rfl rfl ?_
      refine g_iadd (q := 168) dX6_paste_167 rfl ?_
      refine g_iload (q := 170) dX6_paste_168 rfl rfl ?_
      refine g_iadd (q := 171) dX6_paste_170 rfl ?_
      refine g_aload_n (q := 172) dX6_paste_171 rfl rfl ?_
      refine gm_get (k := 37) (q := 175) dX6_paste_172 q1431 (by decide) rfl rfl ?_
      refine g_iload (q := 177) dX6_paste_175 rfl rfl ?_
      refine g_lald (q := 178) dX6_paste_177 mA37 (by omega) (by omega) rfl ?_
      refine gm_st36 (q := 179) dX6_paste_178 (by omega) (by omega)  rfl ?_
      rw [e3]
      refine g_iinc (q := 182) dX6_paste_179 rfl gs6 rfl ?_
      refine g_goto (t := 150) dX6_paste_182 (by decide) ?_
      exact ih _ (by omega) (by omega) kk
theorem l_paste2_0 (hk : (0 ≤ t ∧ t ≤ 3) ∧ 0 ≤ k ∧ 0 ≤ n ∧ k + n ≤ 60) (kk : GO E iX6_paste d 0 0 185 [some (.ref am), some (vI s), some (vI a), some (vI t), some (vI k), some (vI n), some (vI (n))] [] (mH E G am th w hs si lo bk iW iH iB iL iS tp td fv sz pa fr tk vl fk fp fsh hdt lt kl kn cp cd bp bl md sw nd mn my wd (cpyI nm mv (60 * t + k) (0) n) mv) Q) : GO E iX6_paste d 0 0 150 [some (.ref am), some (vI s), some (vI a), some (vI t), some (vI k), some (vI n), some (vI (0))] [] (mH E G am th w hs si lo bk iW iH iB iL iS tp td fv sz pa fr tk vl fk fp fsh hdt lt kl kn cp cd bp bl md sw nd mn my wd nm mv) Q := by
  have := l_paste2 (E := E) (d := d) (am := am) (G := G) hk (n).toNat 0 (by omega) (by omega) kk
  rw [cpyI_0] at this
  exact this
theorem fl_paste {u : Int → Int → Int} {mv : Int → Int} {s a t k n j : Int} (h : 0 ≤ a ∧ 0 ≤ k ∧ 0 ≤ n ∧ a + n ≤ 60 ∧ k + n ≤ 60) (h0 : 0 ≤ j) : cpyI (fl 60 u) (cpyI mv (fl 60 u) 0 (60 * s + a) n) (60 * t + k) 0 n j = fl 60 (upI u t (cpyI (u t) (u s) k a n)) j := by
  obtain ⟨q, r, rfl, h2, h3, h4⟩ := fl_cut (n := 60) (by omega) h0
  rw [fl_at h2 h3]
  by_cases e : q = t
  · subst e
    rw [upI_at]
    by_cases e2 : k ≤ r ∧ r < k + n
    · rw [cpyI_in (by omega) (by omega), cpyI_in (by omega) (by omega), cpyI_in e2.1 e2.2, show 60 * s + a + (0 + (60 * q + r - (60 * q + k)) - 0) = 60 * s + (a + (r - k)) by omega, fl_at (by omega) (by omega)]
    · rw [cpyI_out (by omega), fl_at h2 h3, cpyI_out (by omega)]
  · rw [upI_ne e, cpyI_out (by omega), fl_at h2 h3]
theorem c_paste (h1 : in32 s) (h2 : in32 a) (h3 : in32 t) (h4 : in32 k) (h5 : in32 n) (hmy : ∀ s, isSl s → -1 ≤ my s ∧ my s ≤ 60) (hwd : ∀ s, isSl s → 0 ≤ wd s ∧ wd s ≤ 3) : CALL E iX6_paste (d + 2) 0 0 [.ref am, vI s, vI a, vI t, vI k, vI n] (mH E G am th w hs si lo bk iW iH iB iL iS tp td fv sz pa fr tk vl fk fp fsh hdt lt kl kn cp cd bp bl md sw nd mn my wd (fl 60 uN) mv) (qP fun o k2 => o = vI (pstV my wd s a t k n) ∧ ∃ y, k2 = (mH E G am th w hs si lo bk iW iH iB iL iS tp td fv sz pa fr tk vl fk fp fsh hdt lt kl kn cp cd bp bl md sw nd mn my wd (fl 60 (if pstV my wd s a t k n = 0 then upI uN t (cpyI (uN t) (uN s) k a n) else uN)) y)) := by
  have h21 := h2.1
  have h22 := h2.2
  have h41 := h4.1
  have h42 := h4.2
  have h51 := h5.1
  have h52 := h5.2
  have bad : ∀ x : Int, x ≠ 0 → pstV my wd s a t k n = x → (qP fun o k2 => o = vI (pstV my wd s a t k n) ∧ ∃ y, k2 = (mH E G am th w hs si lo bk iW iH iB iL iS tp td fv sz pa fr tk vl fk fp fsh hdt lt kl kn cp cd bp bl md sw nd mn my wd (fl 60 (if pstV my wd s a t k n = 0 then upI uN t (cpyI (uN t) (uN s) k a n) else uN)) y)) (.returned (some (vI x))) (mH E G am th w hs si lo bk iW iH iB iL iS tp td fv sz pa fr tk vl fk fp fsh hdt lt kl kn cp cd bp bl md sw nd mn my wd (fl 60 uN) mv) := by
    intro x hx e
    refine ⟨_, rfl, by rw [e], mv, ?_⟩
    rw [if_neg (by rw [e]; exact hx)]
  by_cases z : isSl s ∧ isSl t
  · have m1 := hmy s z.1
    have m2 := hmy t z.2
    have w1 := hwd s z.1
    have w2 := hwd t z.2
    show GO E iX6_paste _ _ _ 0 [some (.ref am), some (vI s), some (vI a), some (vI t), some (vI k), some (vI n), none] [] _ _
    refine g_iload_n (q := 1) dX6_paste_0 rfl rfl ?_
    refine g_cs (I' := iX6_isSlot) (mc := 0) (ms := 0) (rc := 0) (rs := 0) (q := 4) dX6_paste_1 q1833 q1834 gcX6_isSlot (c_isSlotM h1) rfl rfl ?_
    refine g_ifeqB (t := 14) (q := 7) dX6_paste_4 (by decide) rfl (fun c4 => ?_) (fun c4 => ?_)
    · exact absurd z.1 c4
    · refine g_iload_n (q := 8) dX6_paste_7 rfl rfl ?_
      refine g_cs (I' := iX6_isSlot) (mc := 0) (ms := 0) (rc := 0) (rs := 0) (q := 11) dX6_paste_8 q1833 q1834 gcX6_isSlot (c_isSlotM h3) rfl rfl ?_
      refine g_ifneB (t := 17) (q := 14) dX6_paste_11 (by decide) rfl (fun c11 => ?_) (fun c11 => ?_)
      · refine g_aload_n (q := 18) dX6_paste_17 rfl rfl ?_
        refine gm_get (k := 34) (q := 21) dX6_paste_18 q1428 (by decide) rfl rfl ?_
        refine g_iload_n (q := 22) dX6_paste_21 rfl rfl ?_
        refine g_iald (q := 23) dX6_paste_22 mA34 (by omega) (by omega) rfl ?_
        refine g_iconst (q := 24) dX6_paste_23 rfl ?_
        refine g_icmp_eq (t := 37) (q := 27) dX6_paste_24 (by decide) rfl (by first | assumption | exact in32_gB | exact in32_gCmp | (unfold in32; omega)) (by first | assumption | exact in32_gB | exact in32_gCmp | (unfold in32; omega)) (fun c24 => ?_) (fun c24 => ?_)
        · refine g_bipush (q := 39) dX6_paste_37 rfl ?_
          exact g_iret dX6_paste_39 rfl (bad (-6) (by decide) (by unfold pstV; rw [if_pos z, if_pos (by first | exact Or.inl c24 | exact Or.inr c34)]))
        · refine g_aload_n (q := 28) dX6_paste_27 rfl rfl ?_
          refine gm_get (k := 34) (q := 31) dX6_paste_28 q1428 (by decide) rfl rfl ?_
          refine g_iload_n (q := 32) dX6_paste_31 rfl rfl ?_
          refine g_iald (q := 33) dX6_paste_32 mA34 (by omega) (by omega) rfl ?_
          refine g_iconst (q := 34) dX6_paste_33 rfl ?_
          refine g_icmp_ne (t := 40) (q := 37) dX6_paste_34 (by decide) rfl (by first | assumption | exact in32_gB | exact in32_gCmp | (unfold in32; omega)) (by first | assumption | exact in32_gB | exact in32_gCmp | (unfold in32; omega)) (fun c34 => ?_) (fun c34 => ?_)
          · refine g_aload_n (q := 41) dX6_paste_40 rfl rfl ?_
            refine gm_get (k := 35) (q := 44) dX6_paste_41 q1429 (by decide) rfl rfl ?_
            refine g_iload_n (q := 45) dX6_paste_44 rfl rfl ?_
            refine g_iald (q := 46) dX6_paste_45 mA35 (by omega) (by omega) rfl ?_
            refine g_aload_n (q := 47) dX6_paste_46 rfl rfl ?_
            refine gm_get (k := 35) (q := 50) dX6_paste_47 q1429 (by decide) rfl rfl ?_
            refine g_iload_n (q := 51) dX6_paste_50 rfl rfl ?_
            refine g_iald (q := 52) dX6_paste_51 mA35 (by omega) (by omega) rfl ?_
            refine g_icmp_eq (t := 58) (q := 55) dX6_paste_52 (by decide) rfl (by first | assumption | exact in32_gB | exact in32_gCmp | (unfold in32; omega)) (by first | assumption | exact in32_gB | exact in32_gCmp | (unfold in32; omega)) (fun c52 => ?_) (fun c52 => ?_)
            · refine g_iload_n (q := 59) dX6_paste_58 rfl rfl ?_
              refine g_if_lt (t := 107) (q := 62) dX6_paste_59 (by decide) rfl (by first | assumption | exact in32_gB | exact in32_gCmp | (unfold in32; omega)) (fun c59 => ?_) (fun c59 => ?_)
              · refine g_bipush (q := 109) dX6_paste_107 rfl ?_
                exact g_iret dX6_paste_109 rfl (bad (-7) (by decide) (by unfold pstV; rw [if_pos z, if_neg (by omega), if_pos c52, if_neg (by omega)]))
              · refine g_iload (q := 64) dX6_paste_62 rfl rfl ?_
                refine g_if_lt (t := 107) (q := 67) dX6_paste_64 (by decide) rfl (by first | assumption | exact in32_gB | exact in32_gCmp | (unfold in32; omega)) (fun c64 => ?_) (fun c64 => ?_)
                · refine g_bipush (q := 109) dX6_paste_107 rfl ?_
                  exact g_iret dX6_paste_109 rfl (bad (-7) (by decide) (by unfold pstV; rw [if_pos z, if_neg (by omega), if_pos c52, if_neg (by omega)]))
                · refine g_iload (q := 69) dX6_paste_67 rfl rfl ?_
                  refine g_if_lt (t := 107) (q := 72) dX6_paste_69 (by decide) rfl (by first | assumption | exact in32_gB | exact in32_gCmp | (unfold in32; omega)) (fun c69 => ?_) (fun c69 => ?_)
                  · refine g_bipush (q := 109) dX6_paste_107 rfl ?_
                    exact g_iret dX6_paste_109 rfl (bad (-7) (by decide) (by unfold pstV; rw [if_pos z, if_neg (by omega), if_pos c52, if_neg (by omega)]))
                  · refine g_iload_n (q := 73) dX6_paste_72 rfl rfl ?_
                    refine g_i2l (q := 74) dX6_paste_73 (by first | assumption | exact in32_gB | exact in32_gCmp | (unfold in32; omega)) rfl ?_
                    refine g_iload (q := 76) dX6_paste_74 rfl rfl ?_
                    refine g_i2l (q := 77) dX6_paste_76 (by first | assumption | exact in32_gB | exact in32_gCmp | (unfold in32; omega)) rfl ?_
                    refine g_ladd (q := 78) dX6_paste_77 rfl ?_
                    refine g_aload_n (q := 79) dX6_paste_78 rfl rfl ?_
                    refine gm_get (k := 34) (q := 82) dX6_paste_79 q1428 (by decide) rfl rfl ?_
                    refine g_iload_n (q := 83) dX6_paste_82 rfl rfl ?_
                    refine g_iald (q := 84) dX6_paste_83 mA34 (by omega) (by omega) rfl ?_
                    refine g_i2l (q := 85) dX6_paste_84 (by first | assumption | exact in32_gB | exact in32_gCmp | (unfold in32; omega)) rfl ?_
                    refine g_lcmp (q := 86) dX6_paste_85 (by first | assumption | (unfold in64; omega)) (by first | assumption | (unfold in64; omega)) rfl ?_
                    refine g_cif_gt (t := 107) (q := 89) dX6_paste_86 (by decide) rfl (fun c86 => ?_) (fun c86 => ?_)
                    · refine g_bipush (q := 109) dX6_paste_107 rfl ?_
                      exact g_iret dX6_paste_109 rfl (bad (-7) (by decide) (by unfold pstV; rw [if_pos z, if_neg (by omega), if_pos c52, if_neg (by omega)]))
                    · refine g_iload (q := 91) dX6_paste_89 rfl rfl ?_
                      refine g_i2l (q := 92) dX6_paste_91 (by first | assumption | exact in32_gB | exact in32_gCmp | (unfold in32; omega)) rfl ?_
                      refine g_iload (q := 94) dX6_paste_92 rfl rfl ?_
                      refine g_i2l (q := 95) dX6_paste_94 (by first | assumption | exact in32_gB | exact in32_gCmp | (unfold in32; omega)) rfl ?_
                      refine g_ladd (q := 96) dX6_paste_95 rfl ?_
                      refine g_aload_n (q := 97) dX6_paste_96 rfl rfl ?_
                      refine gm_get (k := 34) (q := 100) dX6_paste_97 q1428 (by decide) rfl rfl ?_
                      refine g_iload_n (q := 101) dX6_paste_100 rfl rfl ?_
                      refine g_iald (q := 102) dX6_paste_101 mA34 (by omega) (by omega) rfl ?_
                      refine g_i2l (q := 103) dX6_paste_102 (by first | assumption | exact in32_gB | exact in32_gCmp | (unfold in32; omega)) rfl ?_
                      refine g_lcmp (q := 104) dX6_paste_103 (by first | assumption | (unfold in64; omega)) (by first | assumption | (unfold in64; omega)) rfl ?_
                      refine g_cif_le (t := 110) (q := 107) dX6_paste_104 (by decide) rfl (fun c104 => ?_) (fun c104 => ?_)
                      · refine g_iconst (q := 111) dX6_paste_110 rfl ?_
                        refine g_istore (q := 113) dX6_paste_111 gs6 rfl ?_
                        refine l_paste1_0 (by omega) ?_
                        refine g_iconst (q := 148) dX6_paste_147 rfl ?_
                        refine g_istore (q := 150) dX6_paste_148 gs6 rfl ?_
                        refine l_paste2_0 (by omega) ?_
                        refine GO.heapx (mX36 (fun j h2 h3 => fl_paste (by omega) h2)) ?_
                        refine g_iconst (q := 186) dX6_paste_185 rfl ?_
                        exact g_iret dX6_paste_186 rfl ⟨_, rfl, by unfold pstV; rw [if_pos z, if_neg (by omega), if_pos c52, if_pos (by omega)], _, by rw [if_pos (show pstV my wd s a t k n = 0 by unfold pstV; rw [if_pos z, if_neg (by omega), if_pos c52, if_pos (by omega)])]⟩
                      · refine g_bipush (q := 109) dX6_paste_107 rfl ?_
                        exact g_iret dX6_paste_109 rfl (bad (-7) (by decide) (by unfold pstV; rw [if_pos z, if_neg (by omega), if_pos c52, if_neg (by omega)]))
            · refine g_bipush (q := 57) dX6_paste_55 rfl ?_
              exact g_iret dX6_paste_57 rfl (bad (-8) (by decide) (by unfold pstV; rw [if_pos z, if_neg (by omega), if_neg c52]))
          · refine g_bipush (q := 39) dX6_paste_37 rfl ?_
            exact g_iret dX6_paste_39 rfl (bad (-6) (by decide) (by unfold pstV; rw [if_pos z, if_pos (by first | exact Or.inl c24 | exact Or.inr c34)]))
      · exact absurd z.2 c11
  · show GO E iX6_paste _ _ _ 0 [some (.ref am), some (vI s), some (vI a), some (vI t), some (vI k), some (vI n), none] [] _ _
    refine g_iload_n (q := 1) dX6_paste_0 rfl rfl ?_
    refine g_cs (I' := iX6_isSlot) (mc := 0) (ms := 0) (rc := 0) (rs := 0) (q := 4) dX6_paste_1 q1833 q1834 gcX6_isSlot (c_isSlotM h1) rfl rfl ?_
    refine g_ifeqB (t := 14) (q := 7) dX6_paste_4 (by decide) rfl (fun c4 => ?_) (fun c4 => ?_)
    · refine g_bipush (q := 16) dX6_paste_14 rfl ?_
      exact g_iret dX6_paste_16 rfl (bad (-2) (by decide) (by unfold pstV; rw [if_neg z]))
    · refine g_iload_n (q := 8) dX6_paste_7 rfl rfl ?_
      refine g_cs (I' := iX6_isSlot) (mc := 0) (ms := 0) (rc := 0) (rs := 0) (q := 11) dX6_paste_8 q1833 q1834 gcX6_isSlot (c_isSlotM h3) rfl rfl ?_
      refine g_ifneB (t := 17) (q := 14) dX6_paste_11 (by decide) rfl (fun c11 => ?_) (fun c11 => ?_)
      · exact absurd ⟨c4, c11⟩ z
      · refine g_bipush (q := 16) dX6_paste_14 rfl ?_
        exact g_iret dX6_paste_16 rfl (bad (-2) (by decide) (by unfold pstV; rw [if_neg z]))
end
