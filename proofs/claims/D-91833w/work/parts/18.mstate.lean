/-! THE REFERENCE's CELLS: one object and its arrays, in a block of addresses from am on -/
set_option maxRecDepth 100000
/-- a block of n cells at a over the heap h0 -/
def blk (h0 : gH) (a n : Nat) (f : Nat → va_E) : gH := (fun b => if a ≤ b ∧ b < a + n then some (f (b - a)) else h0.1 b, h0.2)
theorem blk_at {h0 : gH} {a n : Nat} {f : Nat → va_E} (k : Nat) (hk : k < n) : (blk h0 a n f).1 (a + k) = some (f k) := by
  show (if a ≤ a + k ∧ a + k < a + n then some (f (a + k - a)) else h0.1 (a + k)) = _
  rw [if_pos ⟨by omega, by omega⟩, Nat.add_sub_cancel_left]
theorem blk_at0 {h0 : gH} {a n : Nat} {f : Nat → va_E} (hk : 0 < n) : (blk h0 a n f).1 a = some (f 0) := blk_at 0 hk
theorem blk_out {h0 : gH} {a n b : Nat} {f : Nat → va_E} (hb : b < a ∨ a + n ≤ b) : (blk h0 a n f).1 b = h0.1 b := by
  show (if a ≤ b ∧ b < a + n then some (f (b - a)) else h0.1 b) = _
  rw [if_neg (by omega)]
theorem blk_sz {h0 : gH} {a n : Nat} {f : Nat → va_E} : (blk h0 a n f).2 = h0.2 := rfl
theorem blk_set {h0 : gH} {a n : Nat} {f f' : Nat → va_E} {x : va_E} (k : Nat) (hk : k < n) (h1 : f' k = x) (h2 : ∀ j, j < n → j ≠ k → f' j = f j) : hset (blk h0 a n f) (a + k) x = blk h0 a n f' := by
  refine Prod.ext (funext fun b => ?_) rfl
  show (if b = a + k then some x else if a ≤ b ∧ b < a + n then some (f (b - a)) else h0.1 b) = if a ≤ b ∧ b < a + n then some (f' (b - a)) else h0.1 b
  by_cases hb : b = a + k
  · subst hb
    rw [if_pos rfl, if_pos ⟨by omega, by omega⟩, Nat.add_sub_cancel_left, h1]
  · rw [if_neg hb]
    by_cases hr : a ≤ b ∧ b < a + n
    · rw [if_pos hr, if_pos hr, h2 (b - a) (by omega) (by omega)]
    · rw [if_neg hr, if_neg hr]
theorem blk_set0 {h0 : gH} {a n : Nat} {f f' : Nat → va_E} {x : va_E} (hk : 0 < n) (h1 : f' 0 = x) (h2 : ∀ j, j < n → j ≠ 0 → f' j = f j) : hset (blk h0 a n f) a x = blk h0 a n f' := blk_set 0 hk h1 h2
/-- a write outside goes to what lies below -/
theorem blk_seto {h0 : gH} {a n b : Nat} {f : Nat → va_E} {x : va_E} (hb : b < a ∨ a + n ≤ b) : hset (blk h0 a n f) b x = blk (hset h0 b x) a n f := by
  refine Prod.ext (funext fun c => ?_) rfl
  show (if c = b then some x else if a ≤ c ∧ c < a + n then some (f (c - a)) else h0.1 c) = if a ≤ c ∧ c < a + n then some (f (c - a)) else if c = b then some x else h0.1 c
  by_cases hc : c = b
  · subst hc
    rw [if_pos rfl, if_neg (by omega), if_pos rfl]
  · rw [if_neg hc, if_neg hc]
theorem blk_comm {h0 : gH} {a n b m : Nat} {f g : Nat → va_E} (hb : a + n ≤ b ∨ b + m ≤ a) : blk (blk h0 a n f) b m g = blk (blk h0 b m g) a n f := by
  refine Prod.ext (funext fun c => ?_) rfl
  show (if b ≤ c ∧ c < b + m then some (g (c - b)) else if a ≤ c ∧ c < a + n then some (f (c - a)) else h0.1 c) = if a ≤ c ∧ c < a + n then some (f (c - a)) else if b ≤ c ∧ c < b + m then some (g (c - b)) else h0.1 c
  by_cases h1 : a ≤ c ∧ c < a + n
  · rw [if_pos h1, if_neg (by omega), if_pos h1]
  · rw [if_neg h1, if_neg h1]
def mF (am : Nat) (th : Int) (si : Int) (lo : Int) (td : Int) (sz : Int) (pa : Int) (fr : Int) (tk : Int) (vl : Int) (fk : Int) (fp : Int) (hdt : Int) (kl : Int) (kn : Int) (cd : Int) (bp : Int) (bl : Int) : List Value := [vI th, .ref (am + 1), .ref (am + 2), vI si, vI lo, .ref (am + 3), .ref (am + 4), .ref (am + 5), .ref (am + 6), .ref (am + 7), .ref (am + 8), .ref (am + 9), vI td, .ref (am + 10), vI sz, vI pa, vI fr, vI tk, vI vl, vI fk, vI fp, .ref (am + 11), vI hdt, .ref (am + 12), vI kl, vI kn, .ref (am + 13), vI cd, vI bp, vI bl, .ref (am + 14), .ref (am + 15), .ref (am + 16), .ref (am + 17), .ref (am + 18), .ref (am + 19), .ref (am + 20), .ref (am + 21)]
def mC (E : gE) (am : Nat) (th : Int) (w : Int → Int) (hs : Int → Int) (si : Int) (lo : Int) (bk : Int → Int) (iW : Int → Int) (iH : Int → Int) (iB : Int → Int) (iL : Int → Int) (iS : Int → Int) (tp : Int → Int) (td : Int) (fv : Int → Int) (sz : Int) (pa : Int) (fr : Int) (tk : Int) (vl : Int) (fk : Int) (fp : Int) (fsh : Int → Int) (hdt : Int) (lt : Int → Int) (kl : Int) (kn : Int) (cp : Int → Int) (cd : Int) (bp : Int) (bl : Int) (md : Int → Int) (sw : Int → Int) (nd : Int → Int) (mn : Int → Int) (my : Int → Int) (wd : Int → Int) (nm : Int → Int) (mv : Int → Int) : Nat → va_E := fun j => match j with
  | 0 => oB 7 (mF am th si lo td sz pa fr tk vl fk fp hdt kl kn cd bp bl)
  | 1 => aI E 1120 w
  | 2 => aI E 2018 hs
  | 3 => aI E 360 bk
  | 4 => aI E 3360 iW
  | 5 => aI E 6054 iH
  | 6 => aI E 1080 iB
  | 7 => aI E 3 iL
  | 8 => aI E 3 iS
  | 9 => aB E 900 tp
  | 10 => aI E 5 fv
  | 11 => aI E 1120 fsh
  | 12 => aZ E 4 lt
  | 13 => aI E 16144 cp
  | 14 => aI E 12 md
  | 15 => aI E 1120 sw
  | 16 => aI E 12 nd
  | 17 => aI E 12 mn
  | 18 => aI E 4 my
  | 19 => aI E 4 wd
  | 20 => aL E 240 nm
  | _ => aL E 60 mv
def mH (E : gE) (h0 : gH) (am : Nat) (th : Int) (w : Int → Int) (hs : Int → Int) (si : Int) (lo : Int) (bk : Int → Int) (iW : Int → Int) (iH : Int → Int) (iB : Int → Int) (iL : Int → Int) (iS : Int → Int) (tp : Int → Int) (td : Int) (fv : Int → Int) (sz : Int) (pa : Int) (fr : Int) (tk : Int) (vl : Int) (fk : Int) (fp : Int) (fsh : Int → Int) (hdt : Int) (lt : Int → Int) (kl : Int) (kn : Int) (cp : Int → Int) (cd : Int) (bp : Int) (bl : Int) (md : Int → Int) (sw : Int → Int) (nd : Int → Int) (mn : Int → Int) (my : Int → Int) (wd : Int → Int) (nm : Int → Int) (mv : Int → Int) : gH := blk h0 am 22 (mC E am th w hs si lo bk iW iH iB iL iS tp td fv sz pa fr tk vl fk fp fsh hdt lt kl kn cp cd bp bl md sw nd mn my wd nm mv)
section M
variable {E : gE} {I : gI} {d rc rs pc q am : Nat} {lv : List (Option Value)} {st : List Value} {h0 : gH} {Q : Outcome → gH → Prop} {i x : Int}
variable {th si lo td sz pa fr tk vl fk fp hdt kl kn cd bp bl : Int} {w hs bk iW iH iB iL iS tp fv fsh lt cp md sw nd mn my wd nm mv : Int → Int}
theorem mO : (mH E h0 am th w hs si lo bk iW iH iB iL iS tp td fv sz pa fr tk vl fk fp fsh hdt lt kl kn cp cd bp bl md sw nd mn my wd nm mv).1 am = some (oB 7 (mF am th si lo td sz pa fr tk vl fk fp hdt kl kn cd bp bl)) := blk_at0 (by decide)
theorem mA1 : (mH E h0 am th w hs si lo bk iW iH iB iL iS tp td fv sz pa fr tk vl fk fp fsh hdt lt kl kn cp cd bp bl md sw nd mn my wd nm mv).1 (am + 1) = some (aI E 1120 w) := blk_at 1 (by decide)
theorem mA2 : (mH E h0 am th w hs si lo bk iW iH iB iL iS tp td fv sz pa fr tk vl fk fp fsh hdt lt kl kn cp cd bp bl md sw nd mn my wd nm mv).1 (am + 2) = some (aI E 2018 hs) := blk_at 2 (by decide)
theorem mA5 : (mH E h0 am th w hs si lo bk iW iH iB iL iS tp td fv sz pa fr tk vl fk fp fsh hdt lt kl kn cp cd bp bl md sw nd mn my wd nm mv).1 (am + 3) = some (aI E 360 bk) := blk_at 3 (by decide)
theorem mA6 : (mH E h0 am th w hs si lo bk iW iH iB iL iS tp td fv sz pa fr tk vl fk fp fsh hdt lt kl kn cp cd bp bl md sw nd mn my wd nm mv).1 (am + 4) = some (aI E 3360 iW) := blk_at 4 (by decide)
theorem mA7 : (mH E h0 am th w hs si lo bk iW iH iB iL iS tp td fv sz pa fr tk vl fk fp fsh hdt lt kl kn cp cd bp bl md sw nd mn my wd nm mv).1 (am + 5) = some (aI E 6054 iH) := blk_at 5 (by decide)
theorem mA8 : (mH E h0 am th w hs si lo bk iW iH iB iL iS tp td fv sz pa fr tk vl fk fp fsh hdt lt kl kn cp cd bp bl md sw nd mn my wd nm mv).1 (am + 6) = some (aI E 1080 iB) := blk_at 6 (by decide)
theorem mA9 : (mH E h0 am th w hs si lo bk iW iH iB iL iS tp td fv sz pa fr tk vl fk fp fsh hdt lt kl kn cp cd bp bl md sw nd mn my wd nm mv).1 (am + 7) = some (aI E 3 iL) := blk_at 7 (by decide)
theorem mA10 : (mH E h0 am th w hs si lo bk iW iH iB iL iS tp td fv sz pa fr tk vl fk fp fsh hdt lt kl kn cp cd bp bl md sw nd mn my wd nm mv).1 (am + 8) = some (aI E 3 iS) := blk_at 8 (by decide)
theorem mA11 : (mH E h0 am th w hs si lo bk iW iH iB iL iS tp td fv sz pa fr tk vl fk fp fsh hdt lt kl kn cp cd bp bl md sw nd mn my wd nm mv).1 (am + 9) = some (aB E 900 tp) := blk_at 9 (by decide)
theorem mA13 : (mH E h0 am th w hs si lo bk iW iH iB iL iS tp td fv sz pa fr tk vl fk fp fsh hdt lt kl kn cp cd bp bl md sw nd mn my wd nm mv).1 (am + 10) = some (aI E 5 fv) := blk_at 10 (by decide)
theorem mA21 : (mH E h0 am th w hs si lo bk iW iH iB iL iS tp td fv sz pa fr tk vl fk fp fsh hdt lt kl kn cp cd bp bl md sw nd mn my wd nm mv).1 (am + 11) = some (aI E 1120 fsh) := blk_at 11 (by decide)
theorem mA23 : (mH E h0 am th w hs si lo bk iW iH iB iL iS tp td fv sz pa fr tk vl fk fp fsh hdt lt kl kn cp cd bp bl md sw nd mn my wd nm mv).1 (am + 12) = some (aZ E 4 lt) := blk_at 12 (by decide)
theorem mA26 : (mH E h0 am th w hs si lo bk iW iH iB iL iS tp td fv sz pa fr tk vl fk fp fsh hdt lt kl kn cp cd bp bl md sw nd mn my wd nm mv).1 (am + 13) = some (aI E 16144 cp) := blk_at 13 (by decide)
theorem mA30 : (mH E h0 am th w hs si lo bk iW iH iB iL iS tp td fv sz pa fr tk vl fk fp fsh hdt lt kl kn cp cd bp bl md sw nd mn my wd nm mv).1 (am + 14) = some (aI E 12 md) := blk_at 14 (by decide)
theorem mA31 : (mH E h0 am th w hs si lo bk iW iH iB iL iS tp td fv sz pa fr tk vl fk fp fsh hdt lt kl kn cp cd bp bl md sw nd mn my wd nm mv).1 (am + 15) = some (aI E 1120 sw) := blk_at 15 (by decide)
theorem mA32 : (mH E h0 am th w hs si lo bk iW iH iB iL iS tp td fv sz pa fr tk vl fk fp fsh hdt lt kl kn cp cd bp bl md sw nd mn my wd nm mv).1 (am + 16) = some (aI E 12 nd) := blk_at 16 (by decide)
theorem mA33 : (mH E h0 am th w hs si lo bk iW iH iB iL iS tp td fv sz pa fr tk vl fk fp fsh hdt lt kl kn cp cd bp bl md sw nd mn my wd nm mv).1 (am + 17) = some (aI E 12 mn) := blk_at 17 (by decide)
theorem mA34 : (mH E h0 am th w hs si lo bk iW iH iB iL iS tp td fv sz pa fr tk vl fk fp fsh hdt lt kl kn cp cd bp bl md sw nd mn my wd nm mv).1 (am + 18) = some (aI E 4 my) := blk_at 18 (by decide)
theorem mA35 : (mH E h0 am th w hs si lo bk iW iH iB iL iS tp td fv sz pa fr tk vl fk fp fsh hdt lt kl kn cp cd bp bl md sw nd mn my wd nm mv).1 (am + 19) = some (aI E 4 wd) := blk_at 19 (by decide)
theorem mA36 : (mH E h0 am th w hs si lo bk iW iH iB iL iS tp td fv sz pa fr tk vl fk fp fsh hdt lt kl kn cp cd bp bl md sw nd mn my wd nm mv).1 (am + 20) = some (aL E 240 nm) := blk_at 20 (by decide)
theorem mA37 : (mH E h0 am th w hs si lo bk iW iH iB iL iS tp td fv sz pa fr tk vl fk fp fsh hdt lt kl kn cp cd bp bl md sw nd mn my wd nm mv).1 (am + 21) = some (aL E 60 mv) := blk_at 21 (by decide)
theorem gm_get {k index : Nat} {v : Value} (hd : decode I.2.1 pc = .ok (.getfield index, 3)) (hlink : Cond.fieldLink I.1.cls index (TX6 k).1 (TX6 k).2.1 (TX6 k).2.2.1 ∈ lw_all) (hk : k < 38) (hv : (mF am th si lo td sz pa fr tk vl fk fp hdt kl kn cd bp bl)[k]? = some v) (hq : pc + 3 = q) (kk : GO E I d rc rs q lv (v :: st) (mH E h0 am th w hs si lo bk iW iH iB iL iS tp td fv sz pa fr tk vl fk fp fsh hdt lt kl kn cp cd bp bl md sw nd mn my wd nm mv) Q) : GO E I d rc rs pc lv (.ref am :: st) (mH E h0 am th w hs si lo bk iW iH iB iL iS tp td fv sz pa fr tk vl fk fp fsh hdt lt kl kn cp cd bp bl md sw nd mn my wd nm mv) Q := g_get hd hlink (ci := 7) rfl in_X6 hk mO hv hq kk
theorem mU0 : hset (mH E h0 am th w hs si lo bk iW iH iB iL iS tp td fv sz pa fr tk vl fk fp fsh hdt lt kl kn cp cd bp bl md sw nd mn my wd nm mv) am (oB 7 ((mF am th si lo td sz pa fr tk vl fk fp hdt kl kn cd bp bl).set 0 (vI x))) = (mH E h0 am x w hs si lo bk iW iH iB iL iS tp td fv sz pa fr tk vl fk fp fsh hdt lt kl kn cp cd bp bl md sw nd mn my wd nm mv) := blk_set0 (by decide) rfl (by
  intro j hj hne
  match j, hj, hne with
  | 0, _, hne => exact absurd rfl hne
  | 1, _, _ => rfl
  | 2, _, _ => rfl
  | 3, _, _ => rfl
  | 4, _, _ => rfl
  | 5, _, _ => rfl
  | 6, _, _ => rfl
  | 7, _, _ => rfl
  | 8, _, _ => rfl
  | 9, _, _ => rfl
  | 10, _, _ => rfl
  | 11, _, _ => rfl
  | 12, _, _ => rfl
  | 13, _, _ => rfl
  | 14, _, _ => rfl
  | 15, _, _ => rfl
  | 16, _, _ => rfl
  | 17, _, _ => rfl
  | 18, _, _ => rfl
  | 19, _, _ => rfl
  | 20, _, _ => rfl
  | 21, _, _ => rfl
  | j + 22, hj, _ => omega)
theorem gm_put0 {index : Nat} (hd : decode I.2.1 pc = .ok (.putfield index, 3)) (hlink : Cond.fieldLink I.1.cls index (TX6 0).1 (TX6 0).2.1 (TX6 0).2.2.1 ∈ lw_all) (hq : pc + 3 = q) (kk : GO E I d rc rs q lv st (mH E h0 am x w hs si lo bk iW iH iB iL iS tp td fv sz pa fr tk vl fk fp fsh hdt lt kl kn cp cd bp bl md sw nd mn my wd nm mv) Q) : GO E I d rc rs pc lv (vI x :: .ref am :: st) (mH E h0 am th w hs si lo bk iW iH iB iL iS tp td fv sz pa fr tk vl fk fp fsh hdt lt kl kn cp cd bp bl md sw nd mn my wd nm mv) Q := g_put (k := 0) hd hlink (ci := 7) rfl in_X6 tyX6_ok nmX6 (by decide) rfl gFit_int mO (Nat.le_of_ble_eq_true rfl) hq (by rw [mU0]; exact kk)
theorem mU1 {g : Int → Int} : hset (mH E h0 am th w hs si lo bk iW iH iB iL iS tp td fv sz pa fr tk vl fk fp fsh hdt lt kl kn cp cd bp bl md sw nd mn my wd nm mv) (am + 1) (aI E 1120 g) = (mH E h0 am th g hs si lo bk iW iH iB iL iS tp td fv sz pa fr tk vl fk fp fsh hdt lt kl kn cp cd bp bl md sw nd mn my wd nm mv) := blk_set 1 (by decide) rfl (by
  intro j hj hne
  match j, hj, hne with
  | 0, _, _ => rfl
  | 1, _, hne => exact absurd rfl hne
  | 2, _, _ => rfl
  | 3, _, _ => rfl
  | 4, _, _ => rfl
  | 5, _, _ => rfl
  | 6, _, _ => rfl
  | 7, _, _ => rfl
  | 8, _, _ => rfl
  | 9, _, _ => rfl
  | 10, _, _ => rfl
  | 11, _, _ => rfl
  | 12, _, _ => rfl
  | 13, _, _ => rfl
  | 14, _, _ => rfl
  | 15, _, _ => rfl
  | 16, _, _ => rfl
  | 17, _, _ => rfl
  | 18, _, _ => rfl
  | 19, _, _ => rfl
  | 20, _, _ => rfl
  | 21, _, _ => rfl
  | j + 22, hj, _ => omega)
theorem gm_st1 (hd : decode I.2.1 pc = .ok (.iastore, 1)) (h1 : 0 ≤ i) (h2 : i < 1120) (hq : pc + 1 = q) (kk : GO E I d rc rs q lv st (mH E h0 am th (upI w i x) hs si lo bk iW iH iB iL iS tp td fv sz pa fr tk vl fk fp fsh hdt lt kl kn cp cd bp bl md sw nd mn my wd nm mv) Q) : GO E I d rc rs pc lv (vI x :: vI i :: .ref (am + 1) :: st) (mH E h0 am th w hs si lo bk iW iH iB iL iS tp td fv sz pa fr tk vl fk fp fsh hdt lt kl kn cp cd bp bl md sw nd mn my wd nm mv) Q := g_iast hd mA1 h1 h2 hq (by rw [mU1]; exact kk)
theorem mU2 {g : Int → Int} : hset (mH E h0 am th w hs si lo bk iW iH iB iL iS tp td fv sz pa fr tk vl fk fp fsh hdt lt kl kn cp cd bp bl md sw nd mn my wd nm mv) (am + 2) (aI E 2018 g) = (mH E h0 am th w g si lo bk iW iH iB iL iS tp td fv sz pa fr tk vl fk fp fsh hdt lt kl kn cp cd bp bl md sw nd mn my wd nm mv) := blk_set 2 (by decide) rfl (by
  intro j hj hne
  match j, hj, hne with
  | 0, _, _ => rfl
  | 1, _, _ => rfl
  | 2, _, hne => exact absurd rfl hne
  | 3, _, _ => rfl
  | 4, _, _ => rfl
  | 5, _, _ => rfl
  | 6, _, _ => rfl
  | 7, _, _ => rfl
  | 8, _, _ => rfl
  | 9, _, _ => rfl
  | 10, _, _ => rfl
  | 11, _, _ => rfl
  | 12, _, _ => rfl
  | 13, _, _ => rfl
  | 14, _, _ => rfl
  | 15, _, _ => rfl
  | 16, _, _ => rfl
  | 17, _, _ => rfl
  | 18, _, _ => rfl
  | 19, _, _ => rfl
  | 20, _, _ => rfl
  | 21, _, _ => rfl
  | j + 22, hj, _ => omega)
theorem gm_st2 (hd : decode I.2.1 pc = .ok (.iastore, 1)) (h1 : 0 ≤ i) (h2 : i < 2018) (hq : pc + 1 = q) (kk : GO E I d rc rs q lv st (mH E h0 am th w (upI hs i x) si lo bk iW iH iB iL iS tp td fv sz pa fr tk vl fk fp fsh hdt lt kl kn cp cd bp bl md sw nd mn my wd nm mv) Q) : GO E I d rc rs pc lv (vI x :: vI i :: .ref (am + 2) :: st) (mH E h0 am th w hs si lo bk iW iH iB iL iS tp td fv sz pa fr tk vl fk fp fsh hdt lt kl kn cp cd bp bl md sw nd mn my wd nm mv) Q := g_iast hd mA2 h1 h2 hq (by rw [mU2]; exact kk)
theorem mU3 : hset (mH E h0 am th w hs si lo bk iW iH iB iL iS tp td fv sz pa fr tk vl fk fp fsh hdt lt kl kn cp cd bp bl md sw nd mn my wd nm mv) am (oB 7 ((mF am th si lo td sz pa fr tk vl fk fp hdt kl kn cd bp bl).set 3 (vI x))) = (mH E h0 am th w hs x lo bk iW iH iB iL iS tp td fv sz pa fr tk vl fk fp fsh hdt lt kl kn cp cd bp bl md sw nd mn my wd nm mv) := blk_set0 (by decide) rfl (by
  intro j hj hne
  match j, hj, hne with
  | 0, _, hne => exact absurd rfl hne
  | 1, _, _ => rfl
  | 2, _, _ => rfl
  | 3, _, _ => rfl
  | 4, _, _ => rfl
  | 5, _, _ => rfl
  | 6, _, _ => rfl
  | 7, _, _ => rfl
  | 8, _, _ => rfl
  | 9, _, _ => rfl
  | 10, _, _ => rfl
  | 11, _, _ => rfl
  | 12, _, _ => rfl
  | 13, _, _ => rfl
  | 14, _, _ => rfl
  | 15, _, _ => rfl
  | 16, _, _ => rfl
  | 17, _, _ => rfl
  | 18, _, _ => rfl
  | 19, _, _ => rfl
  | 20, _, _ => rfl
  | 21, _, _ => rfl
  | j + 22, hj, _ => omega)
theorem gm_put3 {index : Nat} (hd : decode I.2.1 pc = .ok (.putfield index, 3)) (hlink : Cond.fieldLink I.1.cls index (TX6 3).1 (TX6 3).2.1 (TX6 3).2.2.1 ∈ lw_all) (hq : pc + 3 = q) (kk : GO E I d rc rs q lv st (mH E h0 am th w hs x lo bk iW iH iB iL iS tp td fv sz pa fr tk vl fk fp fsh hdt lt kl kn cp cd bp bl md sw nd mn my wd nm mv) Q) : GO E I d rc rs pc lv (vI x :: .ref am :: st) (mH E h0 am th w hs si lo bk iW iH iB iL iS tp td fv sz pa fr tk vl fk fp fsh hdt lt kl kn cp cd bp bl md sw nd mn my wd nm mv) Q := g_put (k := 3) hd hlink (ci := 7) rfl in_X6 tyX6_ok nmX6 (by decide) rfl gFit_int mO (Nat.le_of_ble_eq_true rfl) hq (by rw [mU3]; exact kk)
theorem mU4 : hset (mH E h0 am th w hs si lo bk iW iH iB iL iS tp td fv sz pa fr tk vl fk fp fsh hdt lt kl kn cp cd bp bl md sw nd mn my wd nm mv) am (oB 7 ((mF am th si lo td sz pa fr tk vl fk fp hdt kl kn cd bp bl).set 4 (vI x))) = (mH E h0 am th w hs si x bk iW iH iB iL iS tp td fv sz pa fr tk vl fk fp fsh hdt lt kl kn cp cd bp bl md sw nd mn my wd nm mv) := blk_set0 (by decide) rfl (by
  intro j hj hne
  match j, hj, hne with
  | 0, _, hne => exact absurd rfl hne
  | 1, _, _ => rfl
  | 2, _, _ => rfl
  | 3, _, _ => rfl
  | 4, _, _ => rfl
  | 5, _, _ => rfl
  | 6, _, _ => rfl
  | 7, _, _ => rfl
  | 8, _, _ => rfl
  | 9, _, _ => rfl
  | 10, _, _ => rfl
  | 11, _, _ => rfl
  | 12, _, _ => rfl
  | 13, _, _ => rfl
  | 14, _, _ => rfl
  | 15, _, _ => rfl
  | 16, _, _ => rfl
  | 17, _, _ => rfl
  | 18, _, _ => rfl
  | 19, _, _ => rfl
  | 20, _, _ => rfl
  | 21, _, _ => rfl
  | j + 22, hj, _ => omega)
theorem gm_put4 {index : Nat} (hd : decode I.2.1 pc = .ok (.putfield index, 3)) (hlink : Cond.fieldLink I.1.cls index (TX6 4).1 (TX6 4).2.1 (TX6 4).2.2.1 ∈ lw_all) (hq : pc + 3 = q) (kk : GO E I d rc rs q lv st (mH E h0 am th w hs si x bk iW iH iB iL iS tp td fv sz pa fr tk vl fk fp fsh hdt lt kl kn cp cd bp bl md sw nd mn my wd nm mv) Q) : GO E I d rc rs pc lv (vI x :: .ref am :: st) (mH E h0 am th w hs si lo bk iW iH iB iL iS tp td fv sz pa fr tk vl fk fp fsh hdt lt kl kn cp cd bp bl md sw nd mn my wd nm mv) Q := g_put (k := 4) hd hlink (ci := 7) rfl in_X6 tyX6_ok nmX6 (by decide) rfl gFit_int mO (Nat.le_of_ble_eq_true rfl) hq (by rw [mU4]; exact kk)
theorem mU5 {g : Int → Int} : hset (mH E h0 am th w hs si lo bk iW iH iB iL iS tp td fv sz pa fr tk vl fk fp fsh hdt lt kl kn cp cd bp bl md sw nd mn my wd nm mv) (am + 3) (aI E 360 g) = (mH E h0 am th w hs si lo g iW iH iB iL iS tp td fv sz pa fr tk vl fk fp fsh hdt lt kl kn cp cd bp bl md sw nd mn my wd nm mv) := blk_set 3 (by decide) rfl (by
  intro j hj hne
  match j, hj, hne with
  | 0, _, _ => rfl
  | 1, _, _ => rfl
  | 2, _, _ => rfl
  | 3, _, hne => exact absurd rfl hne
  | 4, _, _ => rfl
  | 5, _, _ => rfl
  | 6, _, _ => rfl
  | 7, _, _ => rfl
  | 8, _, _ => rfl
  | 9, _, _ => rfl
  | 10, _, _ => rfl
  | 11, _, _ => rfl
  | 12, _, _ => rfl
  | 13, _, _ => rfl
  | 14, _, _ => rfl
  | 15, _, _ => rfl
  | 16, _, _ => rfl
  | 17, _, _ => rfl
  | 18, _, _ => rfl
  | 19, _, _ => rfl
  | 20, _, _ => rfl
  | 21, _, _ => rfl
  | j + 22, hj, _ => omega)
theorem gm_st5 (hd : decode I.2.1 pc = .ok (.iastore, 1)) (h1 : 0 ≤ i) (h2 : i < 360) (hq : pc + 1 = q) (kk : GO E I d rc rs q lv st (mH E h0 am th w hs si lo (upI bk i x) iW iH iB iL iS tp td fv sz pa fr tk vl fk fp fsh hdt lt kl kn cp cd bp bl md sw nd mn my wd nm mv) Q) : GO E I d rc rs pc lv (vI x :: vI i :: .ref (am + 3) :: st) (mH E h0 am th w hs si lo bk iW iH iB iL iS tp td fv sz pa fr tk vl fk fp fsh hdt lt kl kn cp cd bp bl md sw nd mn my wd nm mv) Q := g_iast hd mA5 h1 h2 hq (by rw [mU5]; exact kk)
theorem mU6 {g : Int → Int} : hset (mH E h0 am th w hs si lo bk iW iH iB iL iS tp td fv sz pa fr tk vl fk fp fsh hdt lt kl kn cp cd bp bl md sw nd mn my wd nm mv) (am + 4) (aI E 3360 g) = (mH E h0 am th w hs si lo bk g iH iB iL iS tp td fv sz pa fr tk vl fk fp fsh hdt lt kl kn cp cd bp bl md sw nd mn my wd nm mv) := blk_set 4 (by decide) rfl (by
  intro j hj hne
  match j, hj, hne with
  | 0, _, _ => rfl
  | 1, _, _ => rfl
  | 2, _, _ => rfl
  | 3, _, _ => rfl
  | 4, _, hne => exact absurd rfl hne
  | 5, _, _ => rfl
  | 6, _, _ => rfl
  | 7, _, _ => rfl
  | 8, _, _ => rfl
  | 9, _, _ => rfl
  | 10, _, _ => rfl
  | 11, _, _ => rfl
  | 12, _, _ => rfl
  | 13, _, _ => rfl
  | 14, _, _ => rfl
  | 15, _, _ => rfl
  | 16, _, _ => rfl
  | 17, _, _ => rfl
  | 18, _, _ => rfl
  | 19, _, _ => rfl
  | 20, _, _ => rfl
  | 21, _, _ => rfl
  | j + 22, hj, _ => omega)
theorem gm_st6 (hd : decode I.2.1 pc = .ok (.iastore, 1)) (h1 : 0 ≤ i) (h2 : i < 3360) (hq : pc + 1 = q) (kk : GO E I d rc rs q lv st (mH E h0 am th w hs si lo bk (upI iW i x) iH iB iL iS tp td fv sz pa fr tk vl fk fp fsh hdt lt kl kn cp cd bp bl md sw nd mn my wd nm mv) Q) : GO E I d rc rs pc lv (vI x :: vI i :: .ref (am + 4) :: st) (mH E h0 am th w hs si lo bk iW iH iB iL iS tp td fv sz pa fr tk vl fk fp fsh hdt lt kl kn cp cd bp bl md sw nd mn my wd nm mv) Q := g_iast hd mA6 h1 h2 hq (by rw [mU6]; exact kk)
theorem mU7 {g : Int → Int} : hset (mH E h0 am th w hs si lo bk iW iH iB iL iS tp td fv sz pa fr tk vl fk fp fsh hdt lt kl kn cp cd bp bl md sw nd mn my wd nm mv) (am + 5) (aI E 6054 g) = (mH E h0 am th w hs si lo bk iW g iB iL iS tp td fv sz pa fr tk vl fk fp fsh hdt lt kl kn cp cd bp bl md sw nd mn my wd nm mv) := blk_set 5 (by decide) rfl (by
  intro j hj hne
  match j, hj, hne with
  | 0, _, _ => rfl
  | 1, _, _ => rfl
  | 2, _, _ => rfl
  | 3, _, _ => rfl
  | 4, _, _ => rfl
  | 5, _, hne => exact absurd rfl hne
  | 6, _, _ => rfl
  | 7, _, _ => rfl
  | 8, _, _ => rfl
  | 9, _, _ => rfl
  | 10, _, _ => rfl
  | 11, _, _ => rfl
  | 12, _, _ => rfl
  | 13, _, _ => rfl
  | 14, _, _ => rfl
  | 15, _, _ => rfl
  | 16, _, _ => rfl
  | 17, _, _ => rfl
  | 18, _, _ => rfl
  | 19, _, _ => rfl
  | 20, _, _ => rfl
  | 21, _, _ => rfl
  | j + 22, hj, _ => omega)
theorem gm_st7 (hd : decode I.2.1 pc = .ok (.iastore, 1)) (h1 : 0 ≤ i) (h2 : i < 6054) (hq : pc + 1 = q) (kk : GO E I d rc rs q lv st (mH E h0 am th w hs si lo bk iW (upI iH i x) iB iL iS tp td fv sz pa fr tk vl fk fp fsh hdt lt kl kn cp cd bp bl md sw nd mn my wd nm mv) Q) : GO E I d rc rs pc lv (vI x :: vI i :: .ref (am + 5) :: st) (mH E h0 am th w hs si lo bk iW iH iB iL iS tp td fv sz pa fr tk vl fk fp fsh hdt lt kl kn cp cd bp bl md sw nd mn my wd nm mv) Q := g_iast hd mA7 h1 h2 hq (by rw [mU7]; exact kk)
theorem mU8 {g : Int → Int} : hset (mH E h0 am th w hs si lo bk iW iH iB iL iS tp td fv sz pa fr tk vl fk fp fsh hdt lt kl kn cp cd bp bl md sw nd mn my wd nm mv) (am + 6) (aI E 1080 g) = (mH E h0 am th w hs si lo bk iW iH g iL iS tp td fv sz pa fr tk vl fk fp fsh hdt lt kl kn cp cd bp bl md sw nd mn my wd nm mv) := blk_set 6 (by decide) rfl (by
  intro j hj hne
  match j, hj, hne with
  | 0, _, _ => rfl
  | 1, _, _ => rfl
  | 2, _, _ => rfl
  | 3, _, _ => rfl
  | 4, _, _ => rfl
  | 5, _, _ => rfl
  | 6, _, hne => exact absurd rfl hne
  | 7, _, _ => rfl
  | 8, _, _ => rfl
  | 9, _, _ => rfl
  | 10, _, _ => rfl
  | 11, _, _ => rfl
  | 12, _, _ => rfl
  | 13, _, _ => rfl
  | 14, _, _ => rfl
  | 15, _, _ => rfl
  | 16, _, _ => rfl
  | 17, _, _ => rfl
  | 18, _, _ => rfl
  | 19, _, _ => rfl
  | 20, _, _ => rfl
  | 21, _, _ => rfl
  | j + 22, hj, _ => omega)
theorem gm_st8 (hd : decode I.2.1 pc = .ok (.iastore, 1)) (h1 : 0 ≤ i) (h2 : i < 1080) (hq : pc + 1 = q) (kk : GO E I d rc rs q lv st (mH E h0 am th w hs si lo bk iW iH (upI iB i x) iL iS tp td fv sz pa fr tk vl fk fp fsh hdt lt kl kn cp cd bp bl md sw nd mn my wd nm mv) Q) : GO E I d rc rs pc lv (vI x :: vI i :: .ref (am + 6) :: st) (mH E h0 am th w hs si lo bk iW iH iB iL iS tp td fv sz pa fr tk vl fk fp fsh hdt lt kl kn cp cd bp bl md sw nd mn my wd nm mv) Q := g_iast hd mA8 h1 h2 hq (by rw [mU8]; exact kk)
theorem mU9 {g : Int → Int} : hset (mH E h0 am th w hs si lo bk iW iH iB iL iS tp td fv sz pa fr tk vl fk fp fsh hdt lt kl kn cp cd bp bl md sw nd mn my wd nm mv) (am + 7) (aI E 3 g) = (mH E h0 am th w hs si lo bk iW iH iB g iS tp td fv sz pa fr tk vl fk fp fsh hdt lt kl kn cp cd bp bl md sw nd mn my wd nm mv) := blk_set 7 (by decide) rfl (by
  intro j hj hne
  match j, hj, hne with
  | 0, _, _ => rfl
  | 1, _, _ => rfl
  | 2, _, _ => rfl
  | 3, _, _ => rfl
  | 4, _, _ => rfl
  | 5, _, _ => rfl
  | 6, _, _ => rfl
  | 7, _, hne => exact absurd rfl hne
  | 8, _, _ => rfl
  | 9, _, _ => rfl
  | 10, _, _ => rfl
  | 11, _, _ => rfl
  | 12, _, _ => rfl
  | 13, _, _ => rfl
  | 14, _, _ => rfl
  | 15, _, _ => rfl
  | 16, _, _ => rfl
  | 17, _, _ => rfl
  | 18, _, _ => rfl
  | 19, _, _ => rfl
  | 20, _, _ => rfl
  | 21, _, _ => rfl
  | j + 22, hj, _ => omega)
theorem gm_st9 (hd : decode I.2.1 pc = .ok (.iastore, 1)) (h1 : 0 ≤ i) (h2 : i < 3) (hq : pc + 1 = q) (kk : GO E I d rc rs q lv st (mH E h0 am th w hs si lo bk iW iH iB (upI iL i x) iS tp td fv sz pa fr tk vl fk fp fsh hdt lt kl kn cp cd bp bl md sw nd mn my wd nm mv) Q) : GO E I d rc rs pc lv (vI x :: vI i :: .ref (am + 7) :: st) (mH E h0 am th w hs si lo bk iW iH iB iL iS tp td fv sz pa fr tk vl fk fp fsh hdt lt kl kn cp cd bp bl md sw nd mn my wd nm mv) Q := g_iast hd mA9 h1 h2 hq (by rw [mU9]; exact kk)
theorem mU10 {g : Int → Int} : hset (mH E h0 am th w hs si lo bk iW iH iB iL iS tp td fv sz pa fr tk vl fk fp fsh hdt lt kl kn cp cd bp bl md sw nd mn my wd nm mv) (am + 8) (aI E 3 g) = (mH E h0 am th w hs si lo bk iW iH iB iL g tp td fv sz pa fr tk vl fk fp fsh hdt lt kl kn cp cd bp bl md sw nd mn my wd nm mv) := blk_set 8 (by decide) rfl (by
  intro j hj hne
  match j, hj, hne with
  | 0, _, _ => rfl
  | 1, _, _ => rfl
  | 2, _, _ => rfl
  | 3, _, _ => rfl
  | 4, _, _ => rfl
  | 5, _, _ => rfl
  | 6, _, _ => rfl
  | 7, _, _ => rfl
  | 8, _, hne => exact absurd rfl hne
  | 9, _, _ => rfl
  | 10, _, _ => rfl
  | 11, _, _ => rfl
  | 12, _, _ => rfl
  | 13, _, _ => rfl
  | 14, _, _ => rfl
  | 15, _, _ => rfl
  | 16, _, _ => rfl
  | 17, _, _ => rfl
  | 18, _, _ => rfl
  | 19, _, _ => rfl
  | 20, _, _ => rfl
  | 21, _, _ => rfl
  | j + 22, hj, _ => omega)
theorem gm_st10 (hd : decode I.2.1 pc = .ok (.iastore, 1)) (h1 : 0 ≤ i) (h2 : i < 3) (hq : pc + 1 = q) (kk : GO E I d rc rs q lv st (mH E h0 am th w hs si lo bk iW iH iB iL (upI iS i x) tp td fv sz pa fr tk vl fk fp fsh hdt lt kl kn cp cd bp bl md sw nd mn my wd nm mv) Q) : GO E I d rc rs pc lv (vI x :: vI i :: .ref (am + 8) :: st) (mH E h0 am th w hs si lo bk iW iH iB iL iS tp td fv sz pa fr tk vl fk fp fsh hdt lt kl kn cp cd bp bl md sw nd mn my wd nm mv) Q := g_iast hd mA10 h1 h2 hq (by rw [mU10]; exact kk)
theorem mU11 {g : Int → Int} : hset (mH E h0 am th w hs si lo bk iW iH iB iL iS tp td fv sz pa fr tk vl fk fp fsh hdt lt kl kn cp cd bp bl md sw nd mn my wd nm mv) (am + 9) (aB E 900 g) = (mH E h0 am th w hs si lo bk iW iH iB iL iS g td fv sz pa fr tk vl fk fp fsh hdt lt kl kn cp cd bp bl md sw nd mn my wd nm mv) := blk_set 9 (by decide) rfl (by
  intro j hj hne
  match j, hj, hne with
  | 0, _, _ => rfl
  | 1, _, _ => rfl
  | 2, _, _ => rfl
  | 3, _, _ => rfl
  | 4, _, _ => rfl
  | 5, _, _ => rfl
  | 6, _, _ => rfl
  | 7, _, _ => rfl
  | 8, _, _ => rfl
  | 9, _, hne => exact absurd rfl hne
  | 10, _, _ => rfl
  | 11, _, _ => rfl
  | 12, _, _ => rfl
  | 13, _, _ => rfl
  | 14, _, _ => rfl
  | 15, _, _ => rfl
  | 16, _, _ => rfl
  | 17, _, _ => rfl
  | 18, _, _ => rfl
  | 19, _, _ => rfl
  | 20, _, _ => rfl
  | 21, _, _ => rfl
  | j + 22, hj, _ => omega)
theorem gm_st11 (hd : decode I.2.1 pc = .ok (.bastore, 1)) (h1 : 0 ≤ i) (h2 : i < 900) (hx : -128 ≤ x ∧ x < 128) (hq : pc + 1 = q) (kk : GO E I d rc rs q lv st (mH E h0 am th w hs si lo bk iW iH iB iL iS (upI tp i x) td fv sz pa fr tk vl fk fp fsh hdt lt kl kn cp cd bp bl md sw nd mn my wd nm mv) Q) : GO E I d rc rs pc lv (vI x :: vI i :: .ref (am + 9) :: st) (mH E h0 am th w hs si lo bk iW iH iB iL iS tp td fv sz pa fr tk vl fk fp fsh hdt lt kl kn cp cd bp bl md sw nd mn my wd nm mv) Q := g_bast hd mA11 h1 h2 hx hq (by rw [mU11]; exact kk)
theorem mU12 : hset (mH E h0 am th w hs si lo bk iW iH iB iL iS tp td fv sz pa fr tk vl fk fp fsh hdt lt kl kn cp cd bp bl md sw nd mn my wd nm mv) am (oB 7 ((mF am th si lo td sz pa fr tk vl fk fp hdt kl kn cd bp bl).set 12 (vI x))) = (mH E h0 am th w hs si lo bk iW iH iB iL iS tp x fv sz pa fr tk vl fk fp fsh hdt lt kl kn cp cd bp bl md sw nd mn my wd nm mv) := blk_set0 (by decide) rfl (by
  intro j hj hne
  match j, hj, hne with
  | 0, _, hne => exact absurd rfl hne
  | 1, _, _ => rfl
  | 2, _, _ => rfl
  | 3, _, _ => rfl
  | 4, _, _ => rfl
  | 5, _, _ => rfl
  | 6, _, _ => rfl
  | 7, _, _ => rfl
  | 8, _, _ => rfl
  | 9, _, _ => rfl
  | 10, _, _ => rfl
  | 11, _, _ => rfl
  | 12, _, _ => rfl
  | 13, _, _ => rfl
  | 14, _, _ => rfl
  | 15, _, _ => rfl
  | 16, _, _ => rfl
  | 17, _, _ => rfl
  | 18, _, _ => rfl
  | 19, _, _ => rfl
  | 20, _, _ => rfl
  | 21, _, _ => rfl
  | j + 22, hj, _ => omega)
theorem gm_put12 {index : Nat} (hd : decode I.2.1 pc = .ok (.putfield index, 3)) (hlink : Cond.fieldLink I.1.cls index (TX6 12).1 (TX6 12).2.1 (TX6 12).2.2.1 ∈ lw_all) (hq : pc + 3 = q) (kk : GO E I d rc rs q lv st (mH E h0 am th w hs si lo bk iW iH iB iL iS tp x fv sz pa fr tk vl fk fp fsh hdt lt kl kn cp cd bp bl md sw nd mn my wd nm mv) Q) : GO E I d rc rs pc lv (vI x :: .ref am :: st) (mH E h0 am th w hs si lo bk iW iH iB iL iS tp td fv sz pa fr tk vl fk fp fsh hdt lt kl kn cp cd bp bl md sw nd mn my wd nm mv) Q := g_put (k := 12) hd hlink (ci := 7) rfl in_X6 tyX6_ok nmX6 (by decide) rfl gFit_int mO (Nat.le_of_ble_eq_true rfl) hq (by rw [mU12]; exact kk)
theorem mU13 {g : Int → Int} : hset (mH E h0 am th w hs si lo bk iW iH iB iL iS tp td fv sz pa fr tk vl fk fp fsh hdt lt kl kn cp cd bp bl md sw nd mn my wd nm mv) (am + 10) (aI E 5 g) = (mH E h0 am th w hs si lo bk iW iH iB iL iS tp td g sz pa fr tk vl fk fp fsh hdt lt kl kn cp cd bp bl md sw nd mn my wd nm mv) := blk_set 10 (by decide) rfl (by
  intro j hj hne
  match j, hj, hne with
  | 0, _, _ => rfl
  | 1, _, _ => rfl
  | 2, _, _ => rfl
  | 3, _, _ => rfl
  | 4, _, _ => rfl
  | 5, _, _ => rfl
  | 6, _, _ => rfl
  | 7, _, _ => rfl
  | 8, _, _ => rfl
  | 9, _, _ => rfl
  | 10, _, hne => exact absurd rfl hne
  | 11, _, _ => rfl
  | 12, _, _ => rfl
  | 13, _, _ => rfl
  | 14, _, _ => rfl
  | 15, _, _ => rfl
  | 16, _, _ => rfl
  | 17, _, _ => rfl
  | 18, _, _ => rfl
  | 19, _, _ => rfl
  | 20, _, _ => rfl
  | 21, _, _ => rfl
  | j + 22, hj, _ => omega)
theorem gm_st13 (hd : decode I.2.1 pc = .ok (.iastore, 1)) (h1 : 0 ≤ i) (h2 : i < 5) (hq : pc + 1 = q) (kk : GO E I d rc rs q lv st (mH E h0 am th w hs si lo bk iW iH iB iL iS tp td (upI fv i x) sz pa fr tk vl fk fp fsh hdt lt kl kn cp cd bp bl md sw nd mn my wd nm mv) Q) : GO E I d rc rs pc lv (vI x :: vI i :: .ref (am + 10) :: st) (mH E h0 am th w hs si lo bk iW iH iB iL iS tp td fv sz pa fr tk vl fk fp fsh hdt lt kl kn cp cd bp bl md sw nd mn my wd nm mv) Q := g_iast hd mA13 h1 h2 hq (by rw [mU13]; exact kk)
theorem mU14 : hset (mH E h0 am th w hs si lo bk iW iH iB iL iS tp td fv sz pa fr tk vl fk fp fsh hdt lt kl kn cp cd bp bl md sw nd mn my wd nm mv) am (oB 7 ((mF am th si lo td sz pa fr tk vl fk fp hdt kl kn cd bp bl).set 14 (vI x))) = (mH E h0 am th w hs si lo bk iW iH iB iL iS tp td fv x pa fr tk vl fk fp fsh hdt lt kl kn cp cd bp bl md sw nd mn my wd nm mv) := blk_set0 (by decide) rfl (by
  intro j hj hne
  match j, hj, hne with
  | 0, _, hne => exact absurd rfl hne
  | 1, _, _ => rfl
  | 2, _, _ => rfl
  | 3, _, _ => rfl
  | 4, _, _ => rfl
  | 5, _, _ => rfl
  | 6, _, _ => rfl
  | 7, _, _ => rfl
  | 8, _, _ => rfl
  | 9, _, _ => rfl
  | 10, _, _ => rfl
  | 11, _, _ => rfl
  | 12, _, _ => rfl
  | 13, _, _ => rfl
  | 14, _, _ => rfl
  | 15, _, _ => rfl
  | 16, _, _ => rfl
  | 17, _, _ => rfl
  | 18, _, _ => rfl
  | 19, _, _ => rfl
  | 20, _, _ => rfl
  | 21, _, _ => rfl
  | j + 22, hj, _ => omega)
theorem gm_put14 {index : Nat} (hd : decode I.2.1 pc = .ok (.putfield index, 3)) (hlink : Cond.fieldLink I.1.cls index (TX6 14).1 (TX6 14).2.1 (TX6 14).2.2.1 ∈ lw_all) (hq : pc + 3 = q) (kk : GO E I d rc rs q lv st (mH E h0 am th w hs si lo bk iW iH iB iL iS tp td fv x pa fr tk vl fk fp fsh hdt lt kl kn cp cd bp bl md sw nd mn my wd nm mv) Q) : GO E I d rc rs pc lv (vI x :: .ref am :: st) (mH E h0 am th w hs si lo bk iW iH iB iL iS tp td fv sz pa fr tk vl fk fp fsh hdt lt kl kn cp cd bp bl md sw nd mn my wd nm mv) Q := g_put (k := 14) hd hlink (ci := 7) rfl in_X6 tyX6_ok nmX6 (by decide) rfl gFit_int mO (Nat.le_of_ble_eq_true rfl) hq (by rw [mU14]; exact kk)
theorem mU15 : hset (mH E h0 am th w hs si lo bk iW iH iB iL iS tp td fv sz pa fr tk vl fk fp fsh hdt lt kl kn cp cd bp bl md sw nd mn my wd nm mv) am (oB 7 ((mF am th si lo td sz pa fr tk vl fk fp hdt kl kn cd bp bl).set 15 (vI x))) = (mH E h0 am th w hs si lo bk iW iH iB iL iS tp td fv sz x fr tk vl fk fp fsh hdt lt kl kn cp cd bp bl md sw nd mn my wd nm mv) := blk_set0 (by decide) rfl (by
  intro j hj hne
  match j, hj, hne with
  | 0, _, hne => exact absurd rfl hne
  | 1, _, _ => rfl
  | 2, _, _ => rfl
  | 3, _, _ => rfl
  | 4, _, _ => rfl
  | 5, _, _ => rfl
  | 6, _, _ => rfl
  | 7, _, _ => rfl
  | 8, _, _ => rfl
  | 9, _, _ => rfl
  | 10, _, _ => rfl
  | 11, _, _ => rfl
  | 12, _, _ => rfl
  | 13, _, _ => rfl
  | 14, _, _ => rfl
  | 15, _, _ => rfl
  | 16, _, _ => rfl
  | 17, _, _ => rfl
  | 18, _, _ => rfl
  | 19, _, _ => rfl
  | 20, _, _ => rfl
  | 21, _, _ => rfl
  | j + 22, hj, _ => omega)
theorem gm_put15 {index : Nat} (hd : decode I.2.1 pc = .ok (.putfield index, 3)) (hlink : Cond.fieldLink I.1.cls index (TX6 15).1 (TX6 15).2.1 (TX6 15).2.2.1 ∈ lw_all) (hq : pc + 3 = q) (kk : GO E I d rc rs q lv st (mH E h0 am th w hs si lo bk iW iH iB iL iS tp td fv sz x fr tk vl fk fp fsh hdt lt kl kn cp cd bp bl md sw nd mn my wd nm mv) Q) : GO E I d rc rs pc lv (vI x :: .ref am :: st) (mH E h0 am th w hs si lo bk iW iH iB iL iS tp td fv sz pa fr tk vl fk fp fsh hdt lt kl kn cp cd bp bl md sw nd mn my wd nm mv) Q := g_put (k := 15) hd hlink (ci := 7) rfl in_X6 tyX6_ok nmX6 (by decide) rfl gFit_int mO (Nat.le_of_ble_eq_true rfl) hq (by rw [mU15]; exact kk)
theorem mU16 : hset (mH E h0 am th w hs si lo bk iW iH iB iL iS tp td fv sz pa fr tk vl fk fp fsh hdt lt kl kn cp cd bp bl md sw nd mn my wd nm mv) am (oB 7 ((mF am th si lo td sz pa fr tk vl fk fp hdt kl kn cd bp bl).set 16 (vI x))) = (mH E h0 am th w hs si lo bk iW iH iB iL iS tp td fv sz pa x tk vl fk fp fsh hdt lt kl kn cp cd bp bl md sw nd mn my wd nm mv) := blk_set0 (by decide) rfl (by
  intro j hj hne
  match j, hj, hne with
  | 0, _, hne => exact absurd rfl hne
  | 1, _, _ => rfl
  | 2, _, _ => rfl
  | 3, _, _ => rfl
  | 4, _, _ => rfl
  | 5, _, _ => rfl
  | 6, _, _ => rfl
  | 7, _, _ => rfl
  | 8, _, _ => rfl
  | 9, _, _ => rfl
  | 10, _, _ => rfl
  | 11, _, _ => rfl
  | 12, _, _ => rfl
  | 13, _, _ => rfl
  | 14, _, _ => rfl
  | 15, _, _ => rfl
  | 16, _, _ => rfl
  | 17, _, _ => rfl
  | 18, _, _ => rfl
  | 19, _, _ => rfl
  | 20, _, _ => rfl
  | 21, _, _ => rfl
  | j + 22, hj, _ => omega)
theorem gm_put16 {index : Nat} (hd : decode I.2.1 pc = .ok (.putfield index, 3)) (hlink : Cond.fieldLink I.1.cls index (TX6 16).1 (TX6 16).2.1 (TX6 16).2.2.1 ∈ lw_all) (hq : pc + 3 = q) (kk : GO E I d rc rs q lv st (mH E h0 am th w hs si lo bk iW iH iB iL iS tp td fv sz pa x tk vl fk fp fsh hdt lt kl kn cp cd bp bl md sw nd mn my wd nm mv) Q) : GO E I d rc rs pc lv (vI x :: .ref am :: st) (mH E h0 am th w hs si lo bk iW iH iB iL iS tp td fv sz pa fr tk vl fk fp fsh hdt lt kl kn cp cd bp bl md sw nd mn my wd nm mv) Q := g_put (k := 16) hd hlink (ci := 7) rfl in_X6 tyX6_ok nmX6 (by decide) rfl gFit_int mO (Nat.le_of_ble_eq_true rfl) hq (by rw [mU16]; exact kk)
theorem mU17 : hset (mH E h0 am th w hs si lo bk iW iH iB iL iS tp td fv sz pa fr tk vl fk fp fsh hdt lt kl kn cp cd bp bl md sw nd mn my wd nm mv) am (oB 7 ((mF am th si lo td sz pa fr tk vl fk fp hdt kl kn cd bp bl).set 17 (vI x))) = (mH E h0 am th w hs si lo bk iW iH iB iL iS tp td fv sz pa fr x vl fk fp fsh hdt lt kl kn cp cd bp bl md sw nd mn my wd nm mv) := blk_set0 (by decide) rfl (by
  intro j hj hne
  match j, hj, hne with
  | 0, _, hne => exact absurd rfl hne
  | 1, _, _ => rfl
  | 2, _, _ => rfl
  | 3, _, _ => rfl
  | 4, _, _ => rfl
  | 5, _, _ => rfl
  | 6, _, _ => rfl
  | 7, _, _ => rfl
  | 8, _, _ => rfl
  | 9, _, _ => rfl
  | 10, _, _ => rfl
  | 11, _, _ => rfl
  | 12, _, _ => rfl
  | 13, _, _ => rfl
  | 14, _, _ => rfl
  | 15, _, _ => rfl
  | 16, _, _ => rfl
  | 17, _, _ => rfl
  | 18, _, _ => rfl
  | 19, _, _ => rfl
  | 20, _, _ => rfl
  | 21, _, _ => rfl
  | j + 22, hj, _ => omega)
theorem gm_put17 {index : Nat} (hd : decode I.2.1 pc = .ok (.putfield index, 3)) (hlink : Cond.fieldLink I.1.cls index (TX6 17).1 (TX6 17).2.1 (TX6 17).2.2.1 ∈ lw_all) (hq : pc + 3 = q) (kk : GO E I d rc rs q lv st (mH E h0 am th w hs si lo bk iW iH iB iL iS tp td fv sz pa fr x vl fk fp fsh hdt lt kl kn cp cd bp bl md sw nd mn my wd nm mv) Q) : GO E I d rc rs pc lv (vI x :: .ref am :: st) (mH E h0 am th w hs si lo bk iW iH iB iL iS tp td fv sz pa fr tk vl fk fp fsh hdt lt kl kn cp cd bp bl md sw nd mn my wd nm mv) Q := g_put (k := 17) hd hlink (ci := 7) rfl in_X6 tyX6_ok nmX6 (by decide) rfl gFit_int mO (Nat.le_of_ble_eq_true rfl) hq (by rw [mU17]; exact kk)
theorem mU18 : hset (mH E h0 am th w hs si lo bk iW iH iB iL iS tp td fv sz pa fr tk vl fk fp fsh hdt lt kl kn cp cd bp bl md sw nd mn my wd nm mv) am (oB 7 ((mF am th si lo td sz pa fr tk vl fk fp hdt kl kn cd bp bl).set 18 (vI x))) = (mH E h0 am th w hs si lo bk iW iH iB iL iS tp td fv sz pa fr tk x fk fp fsh hdt lt kl kn cp cd bp bl md sw nd mn my wd nm mv) := blk_set0 (by decide) rfl (by
  intro j hj hne
  match j, hj, hne with
  | 0, _, hne => exact absurd rfl hne
  | 1, _, _ => rfl
  | 2, _, _ => rfl
  | 3, _, _ => rfl
  | 4, _, _ => rfl
  | 5, _, _ => rfl
  | 6, _, _ => rfl
  | 7, _, _ => rfl
  | 8, _, _ => rfl
  | 9, _, _ => rfl
  | 10, _, _ => rfl
  | 11, _, _ => rfl
  | 12, _, _ => rfl
  | 13, _, _ => rfl
  | 14, _, _ => rfl
  | 15, _, _ => rfl
  | 16, _, _ => rfl
  | 17, _, _ => rfl
  | 18, _, _ => rfl
  | 19, _, _ => rfl
  | 20, _, _ => rfl
  | 21, _, _ => rfl
  | j + 22, hj, _ => omega)
theorem gm_put18 {index : Nat} (hd : decode I.2.1 pc = .ok (.putfield index, 3)) (hlink : Cond.fieldLink I.1.cls index (TX6 18).1 (TX6 18).2.1 (TX6 18).2.2.1 ∈ lw_all) (hq : pc + 3 = q) (kk : GO E I d rc rs q lv st (mH E h0 am th w hs si lo bk iW iH iB iL iS tp td fv sz pa fr tk x fk fp fsh hdt lt kl kn cp cd bp bl md sw nd mn my wd nm mv) Q) : GO E I d rc rs pc lv (vI x :: .ref am :: st) (mH E h0 am th w hs si lo bk iW iH iB iL iS tp td fv sz pa fr tk vl fk fp fsh hdt lt kl kn cp cd bp bl md sw nd mn my wd nm mv) Q := g_put (k := 18) hd hlink (ci := 7) rfl in_X6 tyX6_ok nmX6 (by decide) rfl gFit_int mO (Nat.le_of_ble_eq_true rfl) hq (by rw [mU18]; exact kk)
theorem mU19 : hset (mH E h0 am th w hs si lo bk iW iH iB iL iS tp td fv sz pa fr tk vl fk fp fsh hdt lt kl kn cp cd bp bl md sw nd mn my wd nm mv) am (oB 7 ((mF am th si lo td sz pa fr tk vl fk fp hdt kl kn cd bp bl).set 19 (vI x))) = (mH E h0 am th w hs si lo bk iW iH iB iL iS tp td fv sz pa fr tk vl x fp fsh hdt lt kl kn cp cd bp bl md sw nd mn my wd nm mv) := blk_set0 (by decide) rfl (by
  intro j hj hne
  match j, hj, hne with
  | 0, _, hne => exact absurd rfl hne
  | 1, _, _ => rfl
  | 2, _, _ => rfl
  | 3, _, _ => rfl
  | 4, _, _ => rfl
  | 5, _, _ => rfl
  | 6, _, _ => rfl
  | 7, _, _ => rfl
  | 8, _, _ => rfl
  | 9, _, _ => rfl
  | 10, _, _ => rfl
  | 11, _, _ => rfl
  | 12, _, _ => rfl
  | 13, _, _ => rfl
  | 14, _, _ => rfl
  | 15, _, _ => rfl
  | 16, _, _ => rfl
  | 17, _, _ => rfl
  | 18, _, _ => rfl
  | 19, _, _ => rfl
  | 20, _, _ => rfl
  | 21, _, _ => rfl
  | j + 22, hj, _ => omega)
theorem gm_put19 {index : Nat} (hd : decode I.2.1 pc = .ok (.putfield index, 3)) (hlink : Cond.fieldLink I.1.cls index (TX6 19).1 (TX6 19).2.1 (TX6 19).2.2.1 ∈ lw_all) (hq : pc + 3 = q) (kk : GO E I d rc rs q lv st (mH E h0 am th w hs si lo bk iW iH iB iL iS tp td fv sz pa fr tk vl x fp fsh hdt lt kl kn cp cd bp bl md sw nd mn my wd nm mv) Q) : GO E I d rc rs pc lv (vI x :: .ref am :: st) (mH E h0 am th w hs si lo bk iW iH iB iL iS tp td fv sz pa fr tk vl fk fp fsh hdt lt kl kn cp cd bp bl md sw nd mn my wd nm mv) Q := g_put (k := 19) hd hlink (ci := 7) rfl in_X6 tyX6_ok nmX6 (by decide) rfl gFit_int mO (Nat.le_of_ble_eq_true rfl) hq (by rw [mU19]; exact kk)
theorem mU20 : hset (mH E h0 am th w hs si lo bk iW iH iB iL iS tp td fv sz pa fr tk vl fk fp fsh hdt lt kl kn cp cd bp bl md sw nd mn my wd nm mv) am (oB 7 ((mF am th si lo td sz pa fr tk vl fk fp hdt kl kn cd bp bl).set 20 (vI x))) = (mH E h0 am th w hs si lo bk iW iH iB iL iS tp td fv sz pa fr tk vl fk x fsh hdt lt kl kn cp cd bp bl md sw nd mn my wd nm mv) := blk_set0 (by decide) rfl (by
  intro j hj hne
  match j, hj, hne with
  | 0, _, hne => exact absurd rfl hne
  | 1, _, _ => rfl
  | 2, _, _ => rfl
  | 3, _, _ => rfl
  | 4, _, _ => rfl
  | 5, _, _ => rfl
  | 6, _, _ => rfl
  | 7, _, _ => rfl
  | 8, _, _ => rfl
  | 9, _, _ => rfl
  | 10, _, _ => rfl
  | 11, _, _ => rfl
  | 12, _, _ => rfl
  | 13, _, _ => rfl
  | 14, _, _ => rfl
  | 15, _, _ => rfl
  | 16, _, _ => rfl
  | 17, _, _ => rfl
  | 18, _, _ => rfl
  | 19, _, _ => rfl
  | 20, _, _ => rfl
  | 21, _, _ => rfl
  | j + 22, hj, _ => omega)
theorem gm_put20 {index : Nat} (hd : decode I.2.1 pc = .ok (.putfield index, 3)) (hlink : Cond.fieldLink I.1.cls index (TX6 20).1 (TX6 20).2.1 (TX6 20).2.2.1 ∈ lw_all) (hq : pc + 3 = q) (kk : GO E I d rc rs q lv st (mH E h0 am th w hs si lo bk iW iH iB iL iS tp td fv sz pa fr tk vl fk x fsh hdt lt kl kn cp cd bp bl md sw nd mn my wd nm mv) Q) : GO E I d rc rs pc lv (vI x :: .ref am :: st) (mH E h0 am th w hs si lo bk iW iH iB iL iS tp td fv sz pa fr tk vl fk fp fsh hdt lt kl kn cp cd bp bl md sw nd mn my wd nm mv) Q := g_put (k := 20) hd hlink (ci := 7) rfl in_X6 tyX6_ok nmX6 (by decide) rfl gFit_int mO (Nat.le_of_ble_eq_true rfl) hq (by rw [mU20]; exact kk)
theorem mU21 {g : Int → Int} : hset (mH E h0 am th w hs si lo bk iW iH iB iL iS tp td fv sz pa fr tk vl fk fp fsh hdt lt kl kn cp cd bp bl md sw nd mn my wd nm mv) (am + 11) (aI E 1120 g) = (mH E h0 am th w hs si lo bk iW iH iB iL iS tp td fv sz pa fr tk vl fk fp g hdt lt kl kn cp cd bp bl md sw nd mn my wd nm mv) := blk_set 11 (by decide) rfl (by
  intro j hj hne
  match j, hj, hne with
  | 0, _, _ => rfl
  | 1, _, _ => rfl
  | 2, _, _ => rfl
  | 3, _, _ => rfl
  | 4, _, _ => rfl
  | 5, _, _ => rfl
  | 6, _, _ => rfl
  | 7, _, _ => rfl
  | 8, _, _ => rfl
  | 9, _, _ => rfl
  | 10, _, _ => rfl
  | 11, _, hne => exact absurd rfl hne
  | 12, _, _ => rfl
  | 13, _, _ => rfl
  | 14, _, _ => rfl
  | 15, _, _ => rfl
  | 16, _, _ => rfl
  | 17, _, _ => rfl
  | 18, _, _ => rfl
  | 19, _, _ => rfl
  | 20, _, _ => rfl
  | 21, _, _ => rfl
  | j + 22, hj, _ => omega)
theorem gm_st21 (hd : decode I.2.1 pc = .ok (.iastore, 1)) (h1 : 0 ≤ i) (h2 : i < 1120) (hq : pc + 1 = q) (kk : GO E I d rc rs q lv st (mH E h0 am th w hs si lo bk iW iH iB iL iS tp td fv sz pa fr tk vl fk fp (upI fsh i x) hdt lt kl kn cp cd bp bl md sw nd mn my wd nm mv) Q) : GO E I d rc rs pc lv (vI x :: vI i :: .ref (am + 11) :: st) (mH E h0 am th w hs si lo bk iW iH iB iL iS tp td fv sz pa fr tk vl fk fp fsh hdt lt kl kn cp cd bp bl md sw nd mn my wd nm mv) Q := g_iast hd mA21 h1 h2 hq (by rw [mU21]; exact kk)
theorem mU22 : hset (mH E h0 am th w hs si lo bk iW iH iB iL iS tp td fv sz pa fr tk vl fk fp fsh hdt lt kl kn cp cd bp bl md sw nd mn my wd nm mv) am (oB 7 ((mF am th si lo td sz pa fr tk vl fk fp hdt kl kn cd bp bl).set 22 (vI x))) = (mH E h0 am th w hs si lo bk iW iH iB iL iS tp td fv sz pa fr tk vl fk fp fsh x lt kl kn cp cd bp bl md sw nd mn my wd nm mv) := blk_set0 (by decide) rfl (by
  intro j hj hne
  match j, hj, hne with
  | 0, _, hne => exact absurd rfl hne
  | 1, _, _ => rfl
  | 2, _, _ => rfl
  | 3, _, _ => rfl
  | 4, _, _ => rfl
  | 5, _, _ => rfl
  | 6, _, _ => rfl
  | 7, _, _ => rfl
  | 8, _, _ => rfl
  | 9, _, _ => rfl
  | 10, _, _ => rfl
  | 11, _, _ => rfl
  | 12, _, _ => rfl
  | 13, _, _ => rfl
  | 14, _, _ => rfl
  | 15, _, _ => rfl
  | 16, _, _ => rfl
  | 17, _, _ => rfl
  | 18, _, _ => rfl
  | 19, _, _ => rfl
  | 20, _, _ => rfl
  | 21, _, _ => rfl
  | j + 22, hj, _ => omega)
theorem gm_put22 {index : Nat} (hd : decode I.2.1 pc = .ok (.putfield index, 3)) (hlink : Cond.fieldLink I.1.cls index (TX6 22).1 (TX6 22).2.1 (TX6 22).2.2.1 ∈ lw_all) (hx : gFit .boolean (vI x)) (hq : pc + 3 = q) (kk : GO E I d rc rs q lv st (mH E h0 am th w hs si lo bk iW iH iB iL iS tp td fv sz pa fr tk vl fk fp fsh x lt kl kn cp cd bp bl md sw nd mn my wd nm mv) Q) : GO E I d rc rs pc lv (vI x :: .ref am :: st) (mH E h0 am th w hs si lo bk iW iH iB iL iS tp td fv sz pa fr tk vl fk fp fsh hdt lt kl kn cp cd bp bl md sw nd mn my wd nm mv) Q := g_put (k := 22) hd hlink (ci := 7) rfl in_X6 tyX6_ok nmX6 (by decide) rfl hx mO (Nat.le_of_ble_eq_true rfl) hq (by rw [mU22]; exact kk)
theorem mU23 {g : Int → Int} : hset (mH E h0 am th w hs si lo bk iW iH iB iL iS tp td fv sz pa fr tk vl fk fp fsh hdt lt kl kn cp cd bp bl md sw nd mn my wd nm mv) (am + 12) (aZ E 4 g) = (mH E h0 am th w hs si lo bk iW iH iB iL iS tp td fv sz pa fr tk vl fk fp fsh hdt g kl kn cp cd bp bl md sw nd mn my wd nm mv) := blk_set 12 (by decide) rfl (by
  intro j hj hne
  match j, hj, hne with
  | 0, _, _ => rfl
  | 1, _, _ => rfl
  | 2, _, _ => rfl
  | 3, _, _ => rfl
  | 4, _, _ => rfl
  | 5, _, _ => rfl
  | 6, _, _ => rfl
  | 7, _, _ => rfl
  | 8, _, _ => rfl
  | 9, _, _ => rfl
  | 10, _, _ => rfl
  | 11, _, _ => rfl
  | 12, _, hne => exact absurd rfl hne
  | 13, _, _ => rfl
  | 14, _, _ => rfl
  | 15, _, _ => rfl
  | 16, _, _ => rfl
  | 17, _, _ => rfl
  | 18, _, _ => rfl
  | 19, _, _ => rfl
  | 20, _, _ => rfl
  | 21, _, _ => rfl
  | j + 22, hj, _ => omega)
theorem gm_st23 (hd : decode I.2.1 pc = .ok (.bastore, 1)) (h1 : 0 ≤ i) (h2 : i < 4) (hx : x = 0 ∨ x = 1) (hq : pc + 1 = q) (kk : GO E I d rc rs q lv st (mH E h0 am th w hs si lo bk iW iH iB iL iS tp td fv sz pa fr tk vl fk fp fsh hdt (upI lt i x) kl kn cp cd bp bl md sw nd mn my wd nm mv) Q) : GO E I d rc rs pc lv (vI x :: vI i :: .ref (am + 12) :: st) (mH E h0 am th w hs si lo bk iW iH iB iL iS tp td fv sz pa fr tk vl fk fp fsh hdt lt kl kn cp cd bp bl md sw nd mn my wd nm mv) Q := g_zast hd mA23 h1 h2 hx hq (by rw [mU23]; exact kk)
theorem mU24 : hset (mH E h0 am th w hs si lo bk iW iH iB iL iS tp td fv sz pa fr tk vl fk fp fsh hdt lt kl kn cp cd bp bl md sw nd mn my wd nm mv) am (oB 7 ((mF am th si lo td sz pa fr tk vl fk fp hdt kl kn cd bp bl).set 24 (vI x))) = (mH E h0 am th w hs si lo bk iW iH iB iL iS tp td fv sz pa fr tk vl fk fp fsh hdt lt x kn cp cd bp bl md sw nd mn my wd nm mv) := blk_set0 (by decide) rfl (by
  intro j hj hne
  match j, hj, hne with
  | 0, _, hne => exact absurd rfl hne
  | 1, _, _ => rfl
  | 2, _, _ => rfl
  | 3, _, _ => rfl
  | 4, _, _ => rfl
  | 5, _, _ => rfl
  | 6, _, _ => rfl
  | 7, _, _ => rfl
  | 8, _, _ => rfl
  | 9, _, _ => rfl
  | 10, _, _ => rfl
  | 11, _, _ => rfl
  | 12, _, _ => rfl
  | 13, _, _ => rfl
  | 14, _, _ => rfl
  | 15, _, _ => rfl
  | 16, _, _ => rfl
  | 17, _, _ => rfl
  | 18, _, _ => rfl
  | 19, _, _ => rfl
  | 20, _, _ => rfl
  | 21, _, _ => rfl
  | j + 22, hj, _ => omega)
theorem gm_put24 {index : Nat} (hd : decode I.2.1 pc = .ok (.putfield index, 3)) (hlink : Cond.fieldLink I.1.cls index (TX6 24).1 (TX6 24).2.1 (TX6 24).2.2.1 ∈ lw_all) (hq : pc + 3 = q) (kk : GO E I d rc rs q lv st (mH E h0 am th w hs si lo bk iW iH iB iL iS tp td fv sz pa fr tk vl fk fp fsh hdt lt x kn cp cd bp bl md sw nd mn my wd nm mv) Q) : GO E I d rc rs pc lv (vI x :: .ref am :: st) (mH E h0 am th w hs si lo bk iW iH iB iL iS tp td fv sz pa fr tk vl fk fp fsh hdt lt kl kn cp cd bp bl md sw nd mn my wd nm mv) Q := g_put (k := 24) hd hlink (ci := 7) rfl in_X6 tyX6_ok nmX6 (by decide) rfl gFit_int mO (Nat.le_of_ble_eq_true rfl) hq (by rw [mU24]; exact kk)
theorem mU25 : hset (mH E h0 am th w hs si lo bk iW iH iB iL iS tp td fv sz pa fr tk vl fk fp fsh hdt lt kl kn cp cd bp bl md sw nd mn my wd nm mv) am (oB 7 ((mF am th si lo td sz pa fr tk vl fk fp hdt kl kn cd bp bl).set 25 (vI x))) = (mH E h0 am th w hs si lo bk iW iH iB iL iS tp td fv sz pa fr tk vl fk fp fsh hdt lt kl x cp cd bp bl md sw nd mn my wd nm mv) := blk_set0 (by decide) rfl (by
  intro j hj hne
  match j, hj, hne with
  | 0, _, hne => exact absurd rfl hne
  | 1, _, _ => rfl
  | 2, _, _ => rfl
  | 3, _, _ => rfl
  | 4, _, _ => rfl
  | 5, _, _ => rfl
  | 6, _, _ => rfl
  | 7, _, _ => rfl
  | 8, _, _ => rfl
  | 9, _, _ => rfl
  | 10, _, _ => rfl
  | 11, _, _ => rfl
  | 12, _, _ => rfl
  | 13, _, _ => rfl
  | 14, _, _ => rfl
  | 15, _, _ => rfl
  | 16, _, _ => rfl
  | 17, _, _ => rfl
  | 18, _, _ => rfl
  | 19, _, _ => rfl
  | 20, _, _ => rfl
  | 21, _, _ => rfl
  | j + 22, hj, _ => omega)
theorem gm_put25 {index : Nat} (hd : decode I.2.1 pc = .ok (.putfield index, 3)) (hlink : Cond.fieldLink I.1.cls index (TX6 25).1 (TX6 25).2.1 (TX6 25).2.2.1 ∈ lw_all) (hq : pc + 3 = q) (kk : GO E I d rc rs q lv st (mH E h0 am th w hs si lo bk iW iH iB iL iS tp td fv sz pa fr tk vl fk fp fsh hdt lt kl x cp cd bp bl md sw nd mn my wd nm mv) Q) : GO E I d rc rs pc lv (vI x :: .ref am :: st) (mH E h0 am th w hs si lo bk iW iH iB iL iS tp td fv sz pa fr tk vl fk fp fsh hdt lt kl kn cp cd bp bl md sw nd mn my wd nm mv) Q := g_put (k := 25) hd hlink (ci := 7) rfl in_X6 tyX6_ok nmX6 (by decide) rfl gFit_int mO (Nat.le_of_ble_eq_true rfl) hq (by rw [mU25]; exact kk)
theorem mU26 {g : Int → Int} : hset (mH E h0 am th w hs si lo bk iW iH iB iL iS tp td fv sz pa fr tk vl fk fp fsh hdt lt kl kn cp cd bp bl md sw nd mn my wd nm mv) (am + 13) (aI E 16144 g) = (mH E h0 am th w hs si lo bk iW iH iB iL iS tp td fv sz pa fr tk vl fk fp fsh hdt lt kl kn g cd bp bl md sw nd mn my wd nm mv) := blk_set 13 (by decide) rfl (by
  intro j hj hne
  match j, hj, hne with
  | 0, _, _ => rfl
  | 1, _, _ => rfl
  | 2, _, _ => rfl
  | 3, _, _ => rfl
  | 4, _, _ => rfl
  | 5, _, _ => rfl
  | 6, _, _ => rfl
  | 7, _, _ => rfl
  | 8, _, _ => rfl
  | 9, _, _ => rfl
  | 10, _, _ => rfl
  | 11, _, _ => rfl
  | 12, _, _ => rfl
  | 13, _, hne => exact absurd rfl hne
  | 14, _, _ => rfl
  | 15, _, _ => rfl
  | 16, _, _ => rfl
  | 17, _, _ => rfl
  | 18, _, _ => rfl
  | 19, _, _ => rfl
  | 20, _, _ => rfl
  | 21, _, _ => rfl
  | j + 22, hj, _ => omega)
theorem gm_st26 (hd : decode I.2.1 pc = .ok (.iastore, 1)) (h1 : 0 ≤ i) (h2 : i < 16144) (hq : pc + 1 = q) (kk : GO E I d rc rs q lv st (mH E h0 am th w hs si lo bk iW iH iB iL iS tp td fv sz pa fr tk vl fk fp fsh hdt lt kl kn (upI cp i x) cd bp bl md sw nd mn my wd nm mv) Q) : GO E I d rc rs pc lv (vI x :: vI i :: .ref (am + 13) :: st) (mH E h0 am th w hs si lo bk iW iH iB iL iS tp td fv sz pa fr tk vl fk fp fsh hdt lt kl kn cp cd bp bl md sw nd mn my wd nm mv) Q := g_iast hd mA26 h1 h2 hq (by rw [mU26]; exact kk)
theorem mU27 : hset (mH E h0 am th w hs si lo bk iW iH iB iL iS tp td fv sz pa fr tk vl fk fp fsh hdt lt kl kn cp cd bp bl md sw nd mn my wd nm mv) am (oB 7 ((mF am th si lo td sz pa fr tk vl fk fp hdt kl kn cd bp bl).set 27 (vI x))) = (mH E h0 am th w hs si lo bk iW iH iB iL iS tp td fv sz pa fr tk vl fk fp fsh hdt lt kl kn cp x bp bl md sw nd mn my wd nm mv) := blk_set0 (by decide) rfl (by
  intro j hj hne
  match j, hj, hne with
  | 0, _, hne => exact absurd rfl hne
  | 1, _, _ => rfl
  | 2, _, _ => rfl
  | 3, _, _ => rfl
  | 4, _, _ => rfl
  | 5, _, _ => rfl
  | 6, _, _ => rfl
  | 7, _, _ => rfl
  | 8, _, _ => rfl
  | 9, _, _ => rfl
  | 10, _, _ => rfl
  | 11, _, _ => rfl
  | 12, _, _ => rfl
  | 13, _, _ => rfl
  | 14, _, _ => rfl
  | 15, _, _ => rfl
  | 16, _, _ => rfl
  | 17, _, _ => rfl
  | 18, _, _ => rfl
  | 19, _, _ => rfl
  | 20, _, _ => rfl
  | 21, _, _ => rfl
  | j + 22, hj, _ => omega)
theorem gm_put27 {index : Nat} (hd : decode I.2.1 pc = .ok (.putfield index, 3)) (hlink : Cond.fieldLink I.1.cls index (TX6 27).1 (TX6 27).2.1 (TX6 27).2.2.1 ∈ lw_all) (hq : pc + 3 = q) (kk : GO E I d rc rs q lv st (mH E h0 am th w hs si lo bk iW iH iB iL iS tp td fv sz pa fr tk vl fk fp fsh hdt lt kl kn cp x bp bl md sw nd mn my wd nm mv) Q) : GO E I d rc rs pc lv (vI x :: .ref am :: st) (mH E h0 am th w hs si lo bk iW iH iB iL iS tp td fv sz pa fr tk vl fk fp fsh hdt lt kl kn cp cd bp bl md sw nd mn my wd nm mv) Q := g_put (k := 27) hd hlink (ci := 7) rfl in_X6 tyX6_ok nmX6 (by decide) rfl gFit_int mO (Nat.le_of_ble_eq_true rfl) hq (by rw [mU27]; exact kk)
theorem mU28 : hset (mH E h0 am th w hs si lo bk iW iH iB iL iS tp td fv sz pa fr tk vl fk fp fsh hdt lt kl kn cp cd bp bl md sw nd mn my wd nm mv) am (oB 7 ((mF am th si lo td sz pa fr tk vl fk fp hdt kl kn cd bp bl).set 28 (vI x))) = (mH E h0 am th w hs si lo bk iW iH iB iL iS tp td fv sz pa fr tk vl fk fp fsh hdt lt kl kn cp cd x bl md sw nd mn my wd nm mv) := blk_set0 (by decide) rfl (by
  intro j hj hne
  match j, hj, hne with
  | 0, _, hne => exact absurd rfl hne
  | 1, _, _ => rfl
  | 2, _, _ => rfl
  | 3, _, _ => rfl
  | 4, _, _ => rfl
  | 5, _, _ => rfl
  | 6, _, _ => rfl
  | 7, _, _ => rfl
  | 8, _, _ => rfl
  | 9, _, _ => rfl
  | 10, _, _ => rfl
  | 11, _, _ => rfl
  | 12, _, _ => rfl
  | 13, _, _ => rfl
  | 14, _, _ => rfl
  | 15, _, _ => rfl
  | 16, _, _ => rfl
  | 17, _, _ => rfl
  | 18, _, _ => rfl
  | 19, _, _ => rfl
  | 20, _, _ => rfl
  | 21, _, _ => rfl
  | j + 22, hj, _ => omega)
theorem gm_put28 {index : Nat} (hd : decode I.2.1 pc = .ok (.putfield index, 3)) (hlink : Cond.fieldLink I.1.cls index (TX6 28).1 (TX6 28).2.1 (TX6 28).2.2.1 ∈ lw_all) (hq : pc + 3 = q) (kk : GO E I d rc rs q lv st (mH E h0 am th w hs si lo bk iW iH iB iL iS tp td fv sz pa fr tk vl fk fp fsh hdt lt kl kn cp cd x bl md sw nd mn my wd nm mv) Q) : GO E I d rc rs pc lv (vI x :: .ref am :: st) (mH E h0 am th w hs si lo bk iW iH iB iL iS tp td fv sz pa fr tk vl fk fp fsh hdt lt kl kn cp cd bp bl md sw nd mn my wd nm mv) Q := g_put (k := 28) hd hlink (ci := 7) rfl in_X6 tyX6_ok nmX6 (by decide) rfl gFit_int mO (Nat.le_of_ble_eq_true rfl) hq (by rw [mU28]; exact kk)
theorem mU29 : hset (mH E h0 am th w hs si lo bk iW iH iB iL iS tp td fv sz pa fr tk vl fk fp fsh hdt lt kl kn cp cd bp bl md sw nd mn my wd nm mv) am (oB 7 ((mF am th si lo td sz pa fr tk vl fk fp hdt kl kn cd bp bl).set 29 (vI x))) = (mH E h0 am th w hs si lo bk iW iH iB iL iS tp td fv sz pa fr tk vl fk fp fsh hdt lt kl kn cp cd bp x md sw nd mn my wd nm mv) := blk_set0 (by decide) rfl (by
  intro j hj hne
  match j, hj, hne with
  | 0, _, hne => exact absurd rfl hne
  | 1, _, _ => rfl
  | 2, _, _ => rfl
  | 3, _, _ => rfl
  | 4, _, _ => rfl
  | 5, _, _ => rfl
  | 6, _, _ => rfl
  | 7, _, _ => rfl
  | 8, _, _ => rfl
  | 9, _, _ => rfl
  | 10, _, _ => rfl
  | 11, _, _ => rfl
  | 12, _, _ => rfl
  | 13, _, _ => rfl
  | 14, _, _ => rfl
  | 15, _, _ => rfl
  | 16, _, _ => rfl
  | 17, _, _ => rfl
  | 18, _, _ => rfl
  | 19, _, _ => rfl
  | 20, _, _ => rfl
  | 21, _, _ => rfl
  | j + 22, hj, _ => omega)
theorem gm_put29 {index : Nat} (hd : decode I.2.1 pc = .ok (.putfield index, 3)) (hlink : Cond.fieldLink I.1.cls index (TX6 29).1 (TX6 29).2.1 (TX6 29).2.2.1 ∈ lw_all) (hq : pc + 3 = q) (kk : GO E I d rc rs q lv st (mH E h0 am th w hs si lo bk iW iH iB iL iS tp td fv sz pa fr tk vl fk fp fsh hdt lt kl kn cp cd bp x md sw nd mn my wd nm mv) Q) : GO E I d rc rs pc lv (vI x :: .ref am :: st) (mH E h0 am th w hs si lo bk iW iH iB iL iS tp td fv sz pa fr tk vl fk fp fsh hdt lt kl kn cp cd bp bl md sw nd mn my wd nm mv) Q := g_put (k := 29) hd hlink (ci := 7) rfl in_X6 tyX6_ok nmX6 (by decide) rfl gFit_int mO (Nat.le_of_ble_eq_true rfl) hq (by rw [mU29]; exact kk)
theorem mU30 {g : Int → Int} : hset (mH E h0 am th w hs si lo bk iW iH iB iL iS tp td fv sz pa fr tk vl fk fp fsh hdt lt kl kn cp cd bp bl md sw nd mn my wd nm mv) (am + 14) (aI E 12 g) = (mH E h0 am th w hs si lo bk iW iH iB iL iS tp td fv sz pa fr tk vl fk fp fsh hdt lt kl kn cp cd bp bl g sw nd mn my wd nm mv) := blk_set 14 (by decide) rfl (by
  intro j hj hne
  match j, hj, hne with
  | 0, _, _ => rfl
  | 1, _, _ => rfl
  | 2, _, _ => rfl
  | 3, _, _ => rfl
  | 4, _, _ => rfl
  | 5, _, _ => rfl
  | 6, _, _ => rfl
  | 7, _, _ => rfl
  | 8, _, _ => rfl
  | 9, _, _ => rfl
  | 10, _, _ => rfl
  | 11, _, _ => rfl
  | 12, _, _ => rfl
  | 13, _, _ => rfl
  | 14, _, hne => exact absurd rfl hne
  | 15, _, _ => rfl
  | 16, _, _ => rfl
  | 17, _, _ => rfl
  | 18, _, _ => rfl
  | 19, _, _ => rfl
  | 20, _, _ => rfl
  | 21, _, _ => rfl
  | j + 22, hj, _ => omega)
theorem gm_st30 (hd : decode I.2.1 pc = .ok (.iastore, 1)) (h1 : 0 ≤ i) (h2 : i < 12) (hq : pc + 1 = q) (kk : GO E I d rc rs q lv st (mH E h0 am th w hs si lo bk iW iH iB iL iS tp td fv sz pa fr tk vl fk fp fsh hdt lt kl kn cp cd bp bl (upI md i x) sw nd mn my wd nm mv) Q) : GO E I d rc rs pc lv (vI x :: vI i :: .ref (am + 14) :: st) (mH E h0 am th w hs si lo bk iW iH iB iL iS tp td fv sz pa fr tk vl fk fp fsh hdt lt kl kn cp cd bp bl md sw nd mn my wd nm mv) Q := g_iast hd mA30 h1 h2 hq (by rw [mU30]; exact kk)
theorem mU31 {g : Int → Int} : hset (mH E h0 am th w hs si lo bk iW iH iB iL iS tp td fv sz pa fr tk vl fk fp fsh hdt lt kl kn cp cd bp bl md sw nd mn my wd nm mv) (am + 15) (aI E 1120 g) = (mH E h0 am th w hs si lo bk iW iH iB iL iS tp td fv sz pa fr tk vl fk fp fsh hdt lt kl kn cp cd bp bl md g nd mn my wd nm mv) := blk_set 15 (by decide) rfl (by
  intro j hj hne
  match j, hj, hne with
  | 0, _, _ => rfl
  | 1, _, _ => rfl
  | 2, _, _ => rfl
  | 3, _, _ => rfl
  | 4, _, _ => rfl
  | 5, _, _ => rfl
  | 6, _, _ => rfl
  | 7, _, _ => rfl
  | 8, _, _ => rfl
  | 9, _, _ => rfl
  | 10, _, _ => rfl
  | 11, _, _ => rfl
  | 12, _, _ => rfl
  | 13, _, _ => rfl
  | 14, _, _ => rfl
  | 15, _, hne => exact absurd rfl hne
  | 16, _, _ => rfl
  | 17, _, _ => rfl
  | 18, _, _ => rfl
  | 19, _, _ => rfl
  | 20, _, _ => rfl
  | 21, _, _ => rfl
  | j + 22, hj, _ => omega)
theorem gm_st31 (hd : decode I.2.1 pc = .ok (.iastore, 1)) (h1 : 0 ≤ i) (h2 : i < 1120) (hq : pc + 1 = q) (kk : GO E I d rc rs q lv st (mH E h0 am th w hs si lo bk iW iH iB iL iS tp td fv sz pa fr tk vl fk fp fsh hdt lt kl kn cp cd bp bl md (upI sw i x) nd mn my wd nm mv) Q) : GO E I d rc rs pc lv (vI x :: vI i :: .ref (am + 15) :: st) (mH E h0 am th w hs si lo bk iW iH iB iL iS tp td fv sz pa fr tk vl fk fp fsh hdt lt kl kn cp cd bp bl md sw nd mn my wd nm mv) Q := g_iast hd mA31 h1 h2 hq (by rw [mU31]; exact kk)
theorem mU32 {g : Int → Int} : hset (mH E h0 am th w hs si lo bk iW iH iB iL iS tp td fv sz pa fr tk vl fk fp fsh hdt lt kl kn cp cd bp bl md sw nd mn my wd nm mv) (am + 16) (aI E 12 g) = (mH E h0 am th w hs si lo bk iW iH iB iL iS tp td fv sz pa fr tk vl fk fp fsh hdt lt kl kn cp cd bp bl md sw g mn my wd nm mv) := blk_set 16 (by decide) rfl (by
  intro j hj hne
  match j, hj, hne with
  | 0, _, _ => rfl
  | 1, _, _ => rfl
  | 2, _, _ => rfl
  | 3, _, _ => rfl
  | 4, _, _ => rfl
  | 5, _, _ => rfl
  | 6, _, _ => rfl
  | 7, _, _ => rfl
  | 8, _, _ => rfl
  | 9, _, _ => rfl
  | 10, _, _ => rfl
  | 11, _, _ => rfl
  | 12, _, _ => rfl
  | 13, _, _ => rfl
  | 14, _, _ => rfl
  | 15, _, _ => rfl
  | 16, _, hne => exact absurd rfl hne
  | 17, _, _ => rfl
  | 18, _, _ => rfl
  | 19, _, _ => rfl
  | 20, _, _ => rfl
  | 21, _, _ => rfl
  | j + 22, hj, _ => omega)
theorem gm_st32 (hd : decode I.2.1 pc = .ok (.iastore, 1)) (h1 : 0 ≤ i) (h2 : i < 12) (hq : pc + 1 = q) (kk : GO E I d rc rs q lv st (mH E h0 am th w hs si lo bk iW iH iB iL iS tp td fv sz pa fr tk vl fk fp fsh hdt lt kl kn cp cd bp bl md sw (upI nd i x) mn my wd nm mv) Q) : GO E I d rc rs pc lv (vI x :: vI i :: .ref (am + 16) :: st) (mH E h0 am th w hs si lo bk iW iH iB iL iS tp td fv sz pa fr tk vl fk fp fsh hdt lt kl kn cp cd bp bl md sw nd mn my wd nm mv) Q := g_iast hd mA32 h1 h2 hq (by rw [mU32]; exact kk)
theorem mU33 {g : Int → Int} : hset (mH E h0 am th w hs si lo bk iW iH iB iL iS tp td fv sz pa fr tk vl fk fp fsh hdt lt kl kn cp cd bp bl md sw nd mn my wd nm mv) (am + 17) (aI E 12 g) = (mH E h0 am th w hs si lo bk iW iH iB iL iS tp td fv sz pa fr tk vl fk fp fsh hdt lt kl kn cp cd bp bl md sw nd g my wd nm mv) := blk_set 17 (by decide) rfl (by
  intro j hj hne
  match j, hj, hne with
  | 0, _, _ => rfl
  | 1, _, _ => rfl
  | 2, _, _ => rfl
  | 3, _, _ => rfl
  | 4, _, _ => rfl
  | 5, _, _ => rfl
  | 6, _, _ => rfl
  | 7, _, _ => rfl
  | 8, _, _ => rfl
  | 9, _, _ => rfl
  | 10, _, _ => rfl
  | 11, _, _ => rfl
  | 12, _, _ => rfl
  | 13, _, _ => rfl
  | 14, _, _ => rfl
  | 15, _, _ => rfl
  | 16, _, _ => rfl
  | 17, _, hne => exact absurd rfl hne
  | 18, _, _ => rfl
  | 19, _, _ => rfl
  | 20, _, _ => rfl
  | 21, _, _ => rfl
  | j + 22, hj, _ => omega)
theorem gm_st33 (hd : decode I.2.1 pc = .ok (.iastore, 1)) (h1 : 0 ≤ i) (h2 : i < 12) (hq : pc + 1 = q) (kk : GO E I d rc rs q lv st (mH E h0 am th w hs si lo bk iW iH iB iL iS tp td fv sz pa fr tk vl fk fp fsh hdt lt kl kn cp cd bp bl md sw nd (upI mn i x) my wd nm mv) Q) : GO E I d rc rs pc lv (vI x :: vI i :: .ref (am + 17) :: st) (mH E h0 am th w hs si lo bk iW iH iB iL iS tp td fv sz pa fr tk vl fk fp fsh hdt lt kl kn cp cd bp bl md sw nd mn my wd nm mv) Q := g_iast hd mA33 h1 h2 hq (by rw [mU33]; exact kk)
theorem mU34 {g : Int → Int} : hset (mH E h0 am th w hs si lo bk iW iH iB iL iS tp td fv sz pa fr tk vl fk fp fsh hdt lt kl kn cp cd bp bl md sw nd mn my wd nm mv) (am + 18) (aI E 4 g) = (mH E h0 am th w hs si lo bk iW iH iB iL iS tp td fv sz pa fr tk vl fk fp fsh hdt lt kl kn cp cd bp bl md sw nd mn g wd nm mv) := blk_set 18 (by decide) rfl (by
  intro j hj hne
  match j, hj, hne with
  | 0, _, _ => rfl
  | 1, _, _ => rfl
  | 2, _, _ => rfl
  | 3, _, _ => rfl
  | 4, _, _ => rfl
  | 5, _, _ => rfl
  | 6, _, _ => rfl
  | 7, _, _ => rfl
  | 8, _, _ => rfl
  | 9, _, _ => rfl
  | 10, _, _ => rfl
  | 11, _, _ => rfl
  | 12, _, _ => rfl
  | 13, _, _ => rfl
  | 14, _, _ => rfl
  | 15, _, _ => rfl
  | 16, _, _ => rfl
  | 17, _, _ => rfl
  | 18, _, hne => exact absurd rfl hne
  | 19, _, _ => rfl
  | 20, _, _ => rfl
  | 21, _, _ => rfl
  | j + 22, hj, _ => omega)
theorem gm_st34 (hd : decode I.2.1 pc = .ok (.iastore, 1)) (h1 : 0 ≤ i) (h2 : i < 4) (hq : pc + 1 = q) (kk : GO E I d rc rs q lv st (mH E h0 am th w hs si lo bk iW iH iB iL iS tp td fv sz pa fr tk vl fk fp fsh hdt lt kl kn cp cd bp bl md sw nd mn (upI my i x) wd nm mv) Q) : GO E I d rc rs pc lv (vI x :: vI i :: .ref (am + 18) :: st) (mH E h0 am th w hs si lo bk iW iH iB iL iS tp td fv sz pa fr tk vl fk fp fsh hdt lt kl kn cp cd bp bl md sw nd mn my wd nm mv) Q := g_iast hd mA34 h1 h2 hq (by rw [mU34]; exact kk)
theorem mU35 {g : Int → Int} : hset (mH E h0 am th w hs si lo bk iW iH iB iL iS tp td fv sz pa fr tk vl fk fp fsh hdt lt kl kn cp cd bp bl md sw nd mn my wd nm mv) (am + 19) (aI E 4 g) = (mH E h0 am th w hs si lo bk iW iH iB iL iS tp td fv sz pa fr tk vl fk fp fsh hdt lt kl kn cp cd bp bl md sw nd mn my g nm mv) := blk_set 19 (by decide) rfl (by
  intro j hj hne
  match j, hj, hne with
  | 0, _, _ => rfl
  | 1, _, _ => rfl
  | 2, _, _ => rfl
  | 3, _, _ => rfl
  | 4, _, _ => rfl
  | 5, _, _ => rfl
  | 6, _, _ => rfl
  | 7, _, _ => rfl
  | 8, _, _ => rfl
  | 9, _, _ => rfl
  | 10, _, _ => rfl
  | 11, _, _ => rfl
  | 12, _, _ => rfl
  | 13, _, _ => rfl
  | 14, _, _ => rfl
  | 15, _, _ => rfl
  | 16, _, _ => rfl
  | 17, _, _ => rfl
  | 18, _, _ => rfl
  | 19, _, hne => exact absurd rfl hne
  | 20, _, _ => rfl
  | 21, _, _ => rfl
  | j + 22, hj, _ => omega)
theorem gm_st35 (hd : decode I.2.1 pc = .ok (.iastore, 1)) (h1 : 0 ≤ i) (h2 : i < 4) (hq : pc + 1 = q) (kk : GO E I d rc rs q lv st (mH E h0 am th w hs si lo bk iW iH iB iL iS tp td fv sz pa fr tk vl fk fp fsh hdt lt kl kn cp cd bp bl md sw nd mn my (upI wd i x) nm mv) Q) : GO E I d rc rs pc lv (vI x :: vI i :: .ref (am + 19) :: st) (mH E h0 am th w hs si lo bk iW iH iB iL iS tp td fv sz pa fr tk vl fk fp fsh hdt lt kl kn cp cd bp bl md sw nd mn my wd nm mv) Q := g_iast hd mA35 h1 h2 hq (by rw [mU35]; exact kk)
theorem mU36 {g : Int → Int} : hset (mH E h0 am th w hs si lo bk iW iH iB iL iS tp td fv sz pa fr tk vl fk fp fsh hdt lt kl kn cp cd bp bl md sw nd mn my wd nm mv) (am + 20) (aL E 240 g) = (mH E h0 am th w hs si lo bk iW iH iB iL iS tp td fv sz pa fr tk vl fk fp fsh hdt lt kl kn cp cd bp bl md sw nd mn my wd g mv) := blk_set 20 (by decide) rfl (by
  intro j hj hne
  match j, hj, hne with
  | 0, _, _ => rfl
  | 1, _, _ => rfl
  | 2, _, _ => rfl
  | 3, _, _ => rfl
  | 4, _, _ => rfl
  | 5, _, _ => rfl
  | 6, _, _ => rfl
  | 7, _, _ => rfl
  | 8, _, _ => rfl
  | 9, _, _ => rfl
  | 10, _, _ => rfl
  | 11, _, _ => rfl
  | 12, _, _ => rfl
  | 13, _, _ => rfl
  | 14, _, _ => rfl
  | 15, _, _ => rfl
  | 16, _, _ => rfl
  | 17, _, _ => rfl
  | 18, _, _ => rfl
  | 19, _, _ => rfl
  | 20, _, hne => exact absurd rfl hne
  | 21, _, _ => rfl
  | j + 22, hj, _ => omega)
theorem gm_st36 (hd : decode I.2.1 pc = .ok (.lastore, 1)) (h1 : 0 ≤ i) (h2 : i < 240) (hq : pc + 1 = q) (kk : GO E I d rc rs q lv st (mH E h0 am th w hs si lo bk iW iH iB iL iS tp td fv sz pa fr tk vl fk fp fsh hdt lt kl kn cp cd bp bl md sw nd mn my wd (upI nm i x) mv) Q) : GO E I d rc rs pc lv (vL x :: vI i :: .ref (am + 20) :: st) (mH E h0 am th w hs si lo bk iW iH iB iL iS tp td fv sz pa fr tk vl fk fp fsh hdt lt kl kn cp cd bp bl md sw nd mn my wd nm mv) Q := g_last hd mA36 h1 h2 hq (by rw [mU36]; exact kk)
theorem mU37 {g : Int → Int} : hset (mH E h0 am th w hs si lo bk iW iH iB iL iS tp td fv sz pa fr tk vl fk fp fsh hdt lt kl kn cp cd bp bl md sw nd mn my wd nm mv) (am + 21) (aL E 60 g) = (mH E h0 am th w hs si lo bk iW iH iB iL iS tp td fv sz pa fr tk vl fk fp fsh hdt lt kl kn cp cd bp bl md sw nd mn my wd nm g) := blk_set 21 (by decide) rfl (by
  intro j hj hne
  match j, hj, hne with
  | 0, _, _ => rfl
  | 1, _, _ => rfl
  | 2, _, _ => rfl
  | 3, _, _ => rfl
  | 4, _, _ => rfl
  | 5, _, _ => rfl
  | 6, _, _ => rfl
  | 7, _, _ => rfl
  | 8, _, _ => rfl
  | 9, _, _ => rfl
  | 10, _, _ => rfl
  | 11, _, _ => rfl
  | 12, _, _ => rfl
  | 13, _, _ => rfl
  | 14, _, _ => rfl
  | 15, _, _ => rfl
  | 16, _, _ => rfl
  | 17, _, _ => rfl
  | 18, _, _ => rfl
  | 19, _, _ => rfl
  | 20, _, _ => rfl
  | 21, _, hne => exact absurd rfl hne
  | j + 22, hj, _ => omega)
theorem gm_st37 (hd : decode I.2.1 pc = .ok (.lastore, 1)) (h1 : 0 ≤ i) (h2 : i < 60) (hq : pc + 1 = q) (kk : GO E I d rc rs q lv st (mH E h0 am th w hs si lo bk iW iH iB iL iS tp td fv sz pa fr tk vl fk fp fsh hdt lt kl kn cp cd bp bl md sw nd mn my wd nm (upI mv i x)) Q) : GO E I d rc rs pc lv (vL x :: vI i :: .ref (am + 21) :: st) (mH E h0 am th w hs si lo bk iW iH iB iL iS tp td fv sz pa fr tk vl fk fp fsh hdt lt kl kn cp cd bp bl md sw nd mn my wd nm mv) Q := g_last hd mA37 h1 h2 hq (by rw [mU37]; exact kk)
end M
