/-! THE COMPONENT: constructors of Text, Head, State -/
set_option maxRecDepth 100000
/-- n cells behind h -/
def ADD (h : gH) (n : Nat) (F : Nat → va_E) : gH := blk (h.1, h.2 + n) h.2 n F
def apF (F : Nat → va_E) (n : Nat) (G : Nat → va_E) : Nat → va_E := fun j => if j < n then F j else G (j - n)
theorem ADD_at {h : gH} {n : Nat} {F : Nat → va_E} (j : Nat) (hj : j < n) : (ADD h n F).1 (h.2 + j) = some (F j) := blk_at j hj
theorem ADD_lo {h : gH} {n b : Nat} {F : Nat → va_E} (hb : b < h.2) : (ADD h n F).1 b = h.1 b := blk_out (Or.inl hb)
theorem ADD_ext {h : gH} {n : Nat} {F F' : Nat → va_E} (hf : ∀ j, j < n → F j = F' j) : ADD h n F = ADD h n F' := by
  refine Prod.ext (funext fun b => ?_) rfl
  show (if h.2 ≤ b ∧ b < h.2 + n then some (F (b - h.2)) else h.1 b) = if h.2 ≤ b ∧ b < h.2 + n then some (F' (b - h.2)) else h.1 b
  by_cases c : h.2 ≤ b ∧ b < h.2 + n
  · rw [if_pos c, if_pos c, hf _ (by omega)]
  · rw [if_neg c, if_neg c]
theorem ADD_add {h : gH} {n m : Nat} {F G : Nat → va_E} : ADD (ADD h n F) m G = ADD h (n + m) (apF F n G) := by
  refine Prod.ext (funext fun b => ?_) (by show h.2 + n + m = h.2 + (n + m); omega)
  show (if h.2 + n ≤ b ∧ b < h.2 + n + m then some (G (b - (h.2 + n))) else if h.2 ≤ b ∧ b < h.2 + n then some (F (b - h.2)) else h.1 b) = if h.2 ≤ b ∧ b < h.2 + (n + m) then some (if b - h.2 < n then F (b - h.2) else G (b - h.2 - n)) else h.1 b
  by_cases c : h.2 + n ≤ b ∧ b < h.2 + n + m
  · rw [if_pos c, if_pos (by omega), if_neg (by omega), Nat.sub_add_eq]
  · rw [if_neg c]
    by_cases c2 : h.2 ≤ b ∧ b < h.2 + n
    · rw [if_pos c2, if_pos (by omega), if_pos (by omega)]
    · rw [if_neg c2, if_neg (by omega)]
theorem ADD_one {h : gH} {v : va_E} : hnew h v = ADD h 1 (fun _ => v) := by
  refine Prod.ext (funext fun b => ?_) rfl
  show (if b = h.2 then some v else h.1 b) = if h.2 ≤ b ∧ b < h.2 + 1 then some v else h.1 b
  by_cases c : b = h.2
  · rw [if_pos c, if_pos (by omega)]
  · rw [if_neg c, if_neg (by omega)]
theorem ADD_new {h : gH} {n : Nat} {F : Nat → va_E} {v : va_E} : hnew (ADD h n F) v = ADD h (n + 1) (apF F n (fun _ => v)) := by rw [ADD_one, ADD_add]
theorem ADD_set {h : gH} {n : Nat} {F : Nat → va_E} {v : va_E} (j : Nat) (hj : j < n) : hset (ADD h n F) (h.2 + j) v = ADD h n (fun i => if i = j then v else F i) := blk_set j hj (if_pos rfl) (fun i _ z => if_neg z)
theorem ADD_set0 {h : gH} {n : Nat} {F : Nat → va_E} {v : va_E} (hj : 0 < n) : hset (ADD h n F) h.2 v = ADD h n (fun i => if i = 0 then v else F i) := ADD_set 0 hj
theorem ADD_app {h : gH} {L : List va_E} {n : Nat} {F : Nat → va_E} (hn : L.length = n) (hf : ∀ j, j < n → L[j]? = some (F j)) : app h L = ADD h n F := app_blk hn hf
section
variable {E : gE} {I : gI} {d rc rs pc q idx : Nat} {lv : List (Option Value)} {st : List Value} {h : gH} {Q : Outcome → gH → Prop} {L : List va_E}
theorem ga_mLw {n : Nat} (hd : decode I.2.1 pc = .ok (.multianewarray idx 2, 4)) (hlink : Cond.classLink I.1.cls idx "[[LNonsenseRows$Sum;" ∈ lw_all) (hn : L.length = n) (hq : pc + 4 = q) (kk : GO E I d rc rs q lv (.ref (h.2 + n) :: st) (app h (L ++ [aR E 9 3 (fun i => some (h.2 + n + 1 + i.toNat)), aR E 8 4 (fun _ => none), aR E 8 4 (fun _ => none), aR E 8 4 (fun _ => none)])) Q) : GO E I d (rc + 4) (rs + 15) pc lv (vI 4 :: vI 3 :: st) (app h L) Q := by
  subst hn; refine g_mLw hd hlink hq ?_; rw [app_app]; exact kk
end
section
variable {E : gE} {d : Nat} {h : gH}
def txO (t : Nat) : va_E := oB 2 [.ref (t + 1), .ref (t + 2), .ref (t + 3), .ref (t + 7), vI 0, vI 0, vI 0, vI 0]
def tx8 (E : gE) (t : Nat) : List va_E := [txO t, aI E 24 (fun _ => 0), aI E 4 (fun _ => 0), aR E 9 3 (fun i => some (t + 3 + 1 + i.toNat)), aR E 8 4 (fun _ => none), aR E 8 4 (fun _ => none), aR E 8 4 (fun _ => none), aZ E 4 (fun _ => 0)]
theorem c_tinit : CALL E iX2_init (d + 1) 7 47 [.ref h.2] (app h [oB 2 [.null, .null, .null, .null, vI 0, vI 0, vI 0, vI 0]]) (qV (app h (tx8 E h.2))) := by
  show GO E iX2_init _ _ _ 0 [some (.ref h.2)] [] _ _
  refine g_aload_n (q := 1) dX2_init_0 rfl rfl ?_
  refine g_objInit (q := 4) dX2_init_1 q342 rfl ?_
  refine g_aload_n (q := 5) dX2_init_4 rfl rfl ?_
  refine g_bipush (q := 7) dX2_init_5 rfl ?_
  refine ga_newaI (i := 24) (rc := 6) (rs := 23) (n := 1) (q := 9) dX2_init_7 rfl (by decide) (by decide) rfl ?_
  refine GO.cast (h' := (app h [oB 2 [.null, .null, .null, .null, vI 0, vI 0, vI 0, vI 0], aI E 24 (fun _ => 0)])) rfl ?_
  refine g_putF (C := RX2) (T := TX2) (ci := 2) (k := 0) (q := 12) dX2_init_9 q346 rfl in_X2 tyX2_ok nmX2 (by decide) rfl rfl rfl gFit_a (app_at (k := 0) rfl) (Nat.le_of_ble_eq_true rfl) rfl ?_
  refine GO.cast (h' := (app h [oB 2 [.ref (h.2 + 1), .null, .null, .null, vI 0, vI 0, vI 0, vI 0], aI E 24 (fun _ => 0)])) (app_set (k := 0) rfl) ?_
  refine g_aload_n (q := 13) dX2_init_12 rfl rfl ?_
  refine g_iconst (q := 14) dX2_init_13 rfl ?_
  refine ga_newaI (i := 4) (rc := 5) (rs := 19) (n := 2) (q := 16) dX2_init_14 rfl (by decide) (by decide) rfl ?_
  refine GO.cast (h' := (app h [oB 2 [.ref (h.2 + 1), .null, .null, .null, vI 0, vI 0, vI 0, vI 0], aI E 24 (fun _ => 0), aI E 4 (fun _ => 0)])) rfl ?_
  refine g_putF (C := RX2) (T := TX2) (ci := 2) (k := 1) (q := 19) dX2_init_16 q349 rfl in_X2 tyX2_ok nmX2 (by decide) rfl rfl rfl gFit_a (app_at (k := 0) rfl) (Nat.le_of_ble_eq_true rfl) rfl ?_
  refine GO.cast (h' := (app h [oB 2 [.ref (h.2 + 1), .ref (h.2 + 2), .null, .null, vI 0, vI 0, vI 0, vI 0], aI E 24 (fun _ => 0), aI E 4 (fun _ => 0)])) (app_set (k := 0) rfl) ?_
  refine g_aload_n (q := 20) dX2_init_19 rfl rfl ?_
  refine g_iconst (q := 21) dX2_init_20 rfl ?_
  refine g_iconst (q := 22) dX2_init_21 rfl ?_
  refine ga_mLw (rc := 1) (rs := 4) (n := 3) (q := 26) dX2_init_22 q343 rfl rfl ?_
  refine GO.cast (h' := (app h [oB 2 [.ref (h.2 + 1), .ref (h.2 + 2), .null, .null, vI 0, vI 0, vI 0, vI 0], aI E 24 (fun _ => 0), aI E 4 (fun _ => 0), aR E 9 3 (fun i => some (h.2 + 3 + 1 + i.toNat)), aR E 8 4 (fun _ => none), aR E 8 4 (fun _ => none), aR E 8 4 (fun _ => none)])) rfl ?_
  refine g_putF (C := RX2) (T := TX2) (ci := 2) (k := 2) (q := 29) dX2_init_26 q353 rfl in_X2 tyX2_ok nmX2 (by decide) rfl rfl rfl gFit_a (app_at (k := 0) rfl) (Nat.le_of_ble_eq_true rfl) rfl ?_
  refine GO.cast (h' := (app h [oB 2 [.ref (h.2 + 1), .ref (h.2 + 2), .ref (h.2 + 3), .null, vI 0, vI 0, vI 0, vI 0], aI E 24 (fun _ => 0), aI E 4 (fun _ => 0), aR E 9 3 (fun i => some (h.2 + 3 + 1 + i.toNat)), aR E 8 4 (fun _ => none), aR E 8 4 (fun _ => none), aR E 8 4 (fun _ => none)])) (app_set (k := 0) rfl) ?_
  refine g_aload_n (q := 30) dX2_init_29 rfl rfl ?_
  refine g_iconst (q := 31) dX2_init_30 rfl ?_
  refine ga_newaZ (i := 4) (rc := 0) (rs := 0) (n := 7) (q := 33) dX2_init_31 rfl (by decide) (by decide) rfl ?_
  refine GO.cast (h' := (app h [oB 2 [.ref (h.2 + 1), .ref (h.2 + 2), .ref (h.2 + 3), .null, vI 0, vI 0, vI 0, vI 0], aI E 24 (fun _ => 0), aI E 4 (fun _ => 0), aR E 9 3 (fun i => some (h.2 + 3 + 1 + i.toNat)), aR E 8 4 (fun _ => none), aR E 8 4 (fun _ => none), aR E 8 4 (fun _ => none), aZ E 4 (fun _ => 0)])) rfl ?_
  refine g_putF (C := RX2) (T := TX2) (ci := 2) (k := 3) (q := 36) dX2_init_33 q357 rfl in_X2 tyX2_ok nmX2 (by decide) rfl rfl rfl gFit_a (app_at (k := 0) rfl) (Nat.le_of_ble_eq_true rfl) rfl ?_
  refine GO.cast (h' := (app h [oB 2 [.ref (h.2 + 1), .ref (h.2 + 2), .ref (h.2 + 3), .ref (h.2 + 7), vI 0, vI 0, vI 0, vI 0], aI E 24 (fun _ => 0), aI E 4 (fun _ => 0), aR E 9 3 (fun i => some (h.2 + 3 + 1 + i.toNat)), aR E 8 4 (fun _ => none), aR E 8 4 (fun _ => none), aR E 8 4 (fun _ => none), aZ E 4 (fun _ => 0)])) (app_set (k := 0) rfl) ?_
  exact g_vret dX2_init_36 rfl ⟨rfl, rfl⟩
theorem c_hinit : CALL E iX3_init (d + 2) 102 2409 [.ref h.2] (ADD h 1 (fun _ => oB 4 [.null, .null, .null, vI 0, vI 0])) (qV (ADD h 103 (hdF E h.2 none (fun _ => 0) (akO 0 0 0 0 0)))) := by
  show GO E iX3_init _ _ _ 0 [some (.ref h.2)] [] _ _
  refine g_aload_n (q := 1) dX3_init_0 rfl rfl ?_
  refine g_objInit (q := 4) dX3_init_1 q418 rfl ?_
  refine g_aload_n (q := 5) dX3_init_4 rfl rfl ?_
  refine g_iconst (q := 6) dX3_init_5 rfl ?_
  refine g_bipush (q := 8) dX3_init_6 rfl ?_
  refine g_bipush (q := 10) dX3_init_8 rfl ?_
  refine g_mHd (q := 14) (p := h.2) (tx := none) (ak := akO 0 0 0 0 0) dX3_init_10 q419 rfl rfl ?_
  refine GO.cast (h' := ADD h 102 (apF (fun _ => oB 4 [.null, .null, .null, vI 0, vI 0]) 1 (fun j => hdF E h.2 none (fun _ => 0) (akO 0 0 0 0 0) (j + 1)))) ADD_add ?_
  refine g_putF (C := RX3) (T := TX3) (ci := 4) (k := 0) (q := 17) dX3_init_14 q450 rfl in_X3 tyX3_ok nmX3 (by decide) rfl rfl rfl gFit_a (ADD_at 0 (by decide)) (Nat.le_of_ble_eq_true rfl) rfl ?_
  refine GO.cast (ADD_set0 (by decide)) ?_
  refine g_aload_n (q := 18) dX3_init_17 rfl rfl ?_
  refine g_new (C := RX4) (T := TX4) (N := 5) (ci := 5) (fs := [vI 0, vI 0, vI 0, vI 0, vI 0]) (q := 21) dX3_init_18 q422 q423 q91 rfl in_X4 tyX4_ok (by decide) rfl ?_
  refine GO.cast ADD_new ?_
  refine g_dup (q := 22) dX3_init_21 rfl ?_
  refine g_ciN (I' := iX4_init) (mc := 0) (ms := 0) (rc := 0) (rs := 0) (q := 25) dX3_init_22 q424 q425 rfl q426 gcX4_init (c_ask0) rfl rfl ?_
  refine g_putF (C := RX3) (T := TX3) (ci := 4) (k := 1) (q := 28) dX3_init_25 q452 rfl in_X3 tyX3_ok nmX3 (by decide) rfl rfl rfl gFit_o (ADD_at 0 (by decide)) (Nat.le_of_ble_eq_true rfl) rfl ?_
  refine g_vret dX3_init_28 rfl ⟨rfl, (ADD_set0 (by decide)).trans (ADD_ext fun j hj => ?_)⟩
  by_cases c0 : j = 0
  · subst c0; rfl
  · rw [if_neg c0]
    unfold apF
    by_cases c1 : j < 102
    · rw [if_pos c1]; simp only []; rw [if_neg c0, if_neg (by omega), Nat.sub_add_cancel (by omega)]
    · obtain rfl : j = 102 := by omega
      rfl

theorem AA_set {L : List va_E} {n k : Nat} {F : Nat → va_E} {x y : va_E} (hk : L[k]? = some y) : hset (ADD (app h L) n F) (h.2 + k) x = ADD (app h (L.set k x)) n F := by
  obtain ⟨hlt, -⟩ := List.getElem?_eq_some_iff.mp hk
  have e := app_set (h := h) (x := x) hk
  have e2 : (app h (L.set k x)).2 = (app h L).2 := by show h.2 + (L.set k x).length = h.2 + L.length; rw [List.length_set]
  unfold ADD
  rw [blk_seto (Or.inl (by show h.2 + k < h.2 + L.length; omega)), e2, ← e]
  rfl
theorem AA_at {L : List va_E} {n k : Nat} {F : Nat → va_E} {x : va_E} (hk : L[k]? = some x) : (ADD (app h L) n F).1 (h.2 + k) = some x := by
  obtain ⟨hlt, -⟩ := List.getElem?_eq_some_iff.mp hk
  rw [ADD_lo (by show h.2 + k < h.2 + L.length; omega)]
  exact app_at hk
def nL (a : Nat) : va_E := oB 3 [vI 0, .ref a, vI 0]
def st14 (E : gE) (a : Nat) (o : va_E) : List va_E := [o] ++ tx8 E (a + 1) ++ [nL (a + 10), aR E 12 4 (fun _ => none), nL (a + 12), aR E 12 4 (fun _ => none), aI E 12 (fun _ => 0)]
def sO (t r b u k : Value) (z : Int) : va_E := oB 1 [t, r, b, u, k, vI z, vI 0]
theorem c_sinit : CALL E iX1_init (d + 4) 116 2495 [.ref h.2] (app h [sO .null .null .null .null .null 0]) (qV (ADD (app h (st14 E h.2 (sO (.ref (h.2 + 1)) (.ref (h.2 + 9)) (.ref (h.2 + 11)) (.ref (h.2 + 13)) (.ref (h.2 + 14)) 1))) 103 (hdF E (h.2 + 14) (some (h.2 + 1)) (fun _ => 0) (akO 0 0 0 0 0)))) := by
  show GO E iX1_init _ _ _ 0 [some (.ref h.2)] [] _ _
  refine g_aload_n (q := 1) dX1_init_0 rfl rfl ?_
  refine g_objInit (q := 4) dX1_init_1 q336 rfl ?_
  refine g_aload_n (q := 5) dX1_init_4 rfl rfl ?_
  refine g_new (C := RX2) (T := TX2) (N := 8) (ci := 2) (fs := [.null, .null, .null, .null, vI 0, vI 0, vI 0, vI 0]) (q := 8) dX1_init_5 q337 q338 q86 rfl in_X2 tyX2_ok (by decide) rfl ?_
  refine GO.cast app_one ?_
  refine g_dup (q := 9) dX1_init_8 rfl ?_
  refine g_ciN (I' := iX2_init) (mc := 7) (ms := 47) (rc := 108) (rs := 2440) (q := 12) dX1_init_9 q339 q340 rfl q341 gcX2_init (c_tinit) rfl rfl ?_
  refine GO.cast (h' := app h ((st14 E h.2 (sO .null .null .null .null .null 0)).take 9)) app_app ?_
  refine g_put (C := RX1) (T := TX1) (ci := 1) (k := 0) (q := 15) dX1_init_12 q477 rfl in_X1 tyX1_ok nmX1 (by decide) rfl gFit_o (app_at (k := 0) rfl) (Nat.le_of_ble_eq_true rfl) rfl ?_
  refine GO.cast (h' := app h ((st14 E h.2 (sO (.ref (h.2 + 1)) .null .null .null .null 0)).take 9)) (app_set (k := 0) rfl) ?_
  refine g_aload_n (q := 16) dX1_init_15 rfl rfl ?_
  refine g_new (C := RJ2) (T := TJ2) (N := 3) (ci := 3) (fs := [vI 0, .null, vI 0]) (q := 19) dX1_init_16 q385 q386 q89 rfl in_J2 tyJ2_ok (by decide) rfl ?_
  refine GO.cast (h' := app h ((st14 E h.2 (sO (.ref (h.2 + 1)) .null .null .null .null 0)).take 9 ++ [oB 3 [vI 0, .null, vI 0]])) app_new ?_
  refine g_dup (q := 20) dX1_init_19 rfl ?_
  refine g_iconst (q := 21) dX1_init_20 rfl ?_
  refine g_ci (I' := iJ2_init) (mc := 1) (ms := 4) (rc := 106) (rs := 2433) (q := 24) dX1_init_21 q387 q388 rfl q389 gcJ2_init (c_listX (n := 4) (a := h.2 + 9) (by omega) (by show _ < h.2 + 10; omega) (app_at (k := 9) rfl)) rfl rfl ?_
  refine GO.cast (h' := app h ((st14 E h.2 (sO (.ref (h.2 + 1)) .null .null .null .null 0)).take 11)) ((congrArg (fun k => hset k _ _) app_new).trans (app_set (k := 9) rfl)) ?_
  refine g_putF (C := RX1) (T := TX1) (ci := 1) (k := 1) (q := 27) dX1_init_24 q479 rfl in_X1 tyX1_ok nmX1 (by decide) rfl rfl rfl gFit_o (app_at (k := 0) rfl) (Nat.le_of_ble_eq_true rfl) rfl ?_
  refine GO.cast (h' := app h ((st14 E h.2 (sO (.ref (h.2 + 1)) (.ref (h.2 + 9)) .null .null .null 0)).take 11)) (app_set (k := 0) rfl) ?_
  refine g_aload_n (q := 28) dX1_init_27 rfl rfl ?_
  refine g_new (C := RJ2) (T := TJ2) (N := 3) (ci := 3) (fs := [vI 0, .null, vI 0]) (q := 31) dX1_init_28 q385 q386 q89 rfl in_J2 tyJ2_ok (by decide) rfl ?_
  refine GO.cast (h' := app h ((st14 E h.2 (sO (.ref (h.2 + 1)) (.ref (h.2 + 9)) .null .null .null 0)).take 11 ++ [oB 3 [vI 0, .null, vI 0]])) app_new ?_
  refine g_dup (q := 32) dX1_init_31 rfl ?_
  refine g_iconst (q := 33) dX1_init_32 rfl ?_
  refine g_ci (I' := iJ2_init) (mc := 1) (ms := 4) (rc := 104) (rs := 2426) (q := 36) dX1_init_33 q387 q388 rfl q389 gcJ2_init (c_listX (n := 4) (a := h.2 + 11) (by omega) (by show _ < h.2 + 12; omega) (app_at (k := 11) rfl)) rfl rfl ?_
  refine GO.cast (h' := app h ((st14 E h.2 (sO (.ref (h.2 + 1)) (.ref (h.2 + 9)) .null .null .null 0)).take 13)) ((congrArg (fun k => hset k _ _) app_new).trans (app_set (k := 11) rfl)) ?_
  refine g_putF (C := RX1) (T := TX1) (ci := 1) (k := 2) (q := 39) dX1_init_36 q481 rfl in_X1 tyX1_ok nmX1 (by decide) rfl rfl rfl gFit_o (app_at (k := 0) rfl) (Nat.le_of_ble_eq_true rfl) rfl ?_
  refine GO.cast (h' := app h ((st14 E h.2 (sO (.ref (h.2 + 1)) (.ref (h.2 + 9)) (.ref (h.2 + 11)) .null .null 0)).take 13)) (app_set (k := 0) rfl) ?_
  refine g_aload_n (q := 40) dX1_init_39 rfl rfl ?_
  refine g_bipush (q := 42) dX1_init_40 rfl ?_
  refine g_newaI (q := 44) (i := 12) (rc := 103) (rs := 2414) dX1_init_42 q226 (by decide) (by decide) rfl ?_
  refine GO.cast (h' := app h (st14 E h.2 (sO (.ref (h.2 + 1)) (.ref (h.2 + 9)) (.ref (h.2 + 11)) .null .null 0))) app_new ?_
  refine g_putF (C := RX1) (T := TX1) (ci := 1) (k := 3) (q := 47) dX1_init_44 q483 rfl in_X1 tyX1_ok nmX1 (by decide) rfl rfl rfl gFit_a (app_at (k := 0) rfl) (Nat.le_of_ble_eq_true rfl) rfl ?_
  refine GO.cast (h' := app h (st14 E h.2 (sO (.ref (h.2 + 1)) (.ref (h.2 + 9)) (.ref (h.2 + 11)) (.ref (h.2 + 13)) .null 0))) (app_set (k := 0) rfl) ?_
  refine g_aload_n (q := 48) dX1_init_47 rfl rfl ?_
  refine g_new (C := RX3) (T := TX3) (N := 5) (ci := 4) (fs := [.null, .null, .null, vI 0, vI 0]) (q := 51) dX1_init_48 q413 q414 q90 rfl in_X3 tyX3_ok (by decide) rfl ?_
  refine GO.cast ADD_one ?_
  refine g_dup (q := 52) dX1_init_51 rfl ?_
  refine g_ciN (I' := iX3_init) (mc := 102) (ms := 2409) (rc := 0) (rs := 0) (q := 55) dX1_init_52 q415 q416 rfl q417 gcX3_init (c_hinit) rfl rfl ?_
  refine g_putF (C := RX1) (T := TX1) (ci := 1) (k := 4) (q := 58) dX1_init_55 q485 rfl in_X1 tyX1_ok nmX1 (by decide) rfl rfl rfl gFit_o (AA_at (k := 0) rfl) (Nat.le_of_ble_eq_true rfl) rfl ?_
  refine GO.cast (h' := ADD (app h (st14 E h.2 (sO (.ref (h.2 + 1)) (.ref (h.2 + 9)) (.ref (h.2 + 11)) (.ref (h.2 + 13)) (.ref (h.2 + 14)) 0))) 103 (hdF E (h.2 + 14) none (fun _ => 0) (akO 0 0 0 0 0))) (AA_set (k := 0) rfl) ?_
  refine g_aload_n (q := 59) dX1_init_58 rfl rfl ?_
  refine g_iconst (q := 60) dX1_init_59 rfl ?_
  refine g_put (C := RX1) (T := TX1) (ci := 1) (k := 5) (q := 63) dX1_init_60 q487 rfl in_X1 tyX1_ok nmX1 (by decide) rfl gFit_1 (AA_at (k := 0) rfl) (Nat.le_of_ble_eq_true rfl) rfl ?_
  refine GO.cast (h' := ADD (app h (st14 E h.2 (sO (.ref (h.2 + 1)) (.ref (h.2 + 9)) (.ref (h.2 + 11)) (.ref (h.2 + 13)) (.ref (h.2 + 14)) 1))) 103 (hdF E (h.2 + 14) none (fun _ => 0) (akO 0 0 0 0 0))) (AA_set (k := 0) rfl) ?_
  refine g_aload_n (q := 64) dX1_init_63 rfl rfl ?_
  refine g_get (C := RX1) (T := TX1) (ci := 1) (k := 4) (q := 67) dX1_init_64 q485 rfl in_X1 (by decide) (AA_at (k := 0) rfl) rfl rfl ?_
  refine g_aload_n (q := 68) dX1_init_67 rfl rfl ?_
  refine g_get (C := RX1) (T := TX1) (ci := 1) (k := 0) (q := 71) dX1_init_68 q477 rfl in_X1 (by decide) (AA_at (k := 0) rfl) rfl rfl ?_
  refine g_cvV (I' := iX3_clears) (mc := 0) (ms := 0) (rc := 0) (rs := 0) (ci := 4) (q := 74) dX1_init_71 q469 q470 rfl q471 gcX3_clears (ADD_at 0 (by decide)) (c_clearsX) rfl rfl ?_
  exact g_vret dX1_init_74 rfl ⟨rfl, rfl⟩
end
