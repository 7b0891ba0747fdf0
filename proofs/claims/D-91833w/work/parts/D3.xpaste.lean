/-! THE COMPONENT: Slot.pastes -/
set_option maxRecDepth 100000
/-- a number of a width -/
def inW (c v : Int) : Prop := if c = 0 then -128 ≤ v ∧ v < 128 else if c = 1 then -32768 ≤ v ∧ v < 32768 else if c = 2 then in32 v else in64 v
theorem inW_0 {v : Int} : inW 0 v = (-128 ≤ v ∧ v < 128) := if_pos rfl
theorem inW_1 {v : Int} : inW 1 v = (-32768 ≤ v ∧ v < 32768) := (if_neg (by decide)).trans (if_pos rfl)
theorem inW_2 {v : Int} : inW 2 v = in32 v := (if_neg (by decide)).trans ((if_neg (by decide)).trans (if_pos rfl))
theorem inW_3 {v : Int} : inW 3 v = in64 v := (if_neg (by decide)).trans ((if_neg (by decide)).trans (if_neg (by decide)))
section
variable {E : gE} {I : gI} {d rc rs pc q idx a a0 n0 n1 : Nat} {lv : List (Option Value)} {rest : List Value} {h : gH} {Q : Outcome → gH → Prop} {f g : Int → Int} {sp dp n c : Int}
theorem g_copyW (hc : 0 ≤ c ∧ c ≤ 3) (hd : decode I.2.1 pc = .ok (.invokestatic idx, 3)) (hlink : Cond.methodLink I.1.cls idx arraycopyName ∈ lw_all) (ha0 : h.1 a0 = some (arrW E c n0 f)) (ha1 : h.1 a = some (arrW E c n1 g)) (h1 : 0 ≤ sp) (h2 : 0 ≤ dp) (h3 : 0 ≤ n) (h4 : sp + n ≤ n0) (h5 : dp + n ≤ n1) (hn0 : n0 < 2147483648) (hn1 : n1 < 2147483648) (hfi : ∀ i : Int, 0 ≤ i → i < n → inW c (f (sp + i))) (hq : pc + 3 = q)
    (kk : GO E I (d + 1) rc rs q lv rest (hset h a (arrW E c n1 (cpyI g f dp sp n))) Q) (hw : (rest.map fun v => v.category).sum ≤ 20 := by exact Nat.le_of_ble_eq_true rfl) : GO E I (d + 1) rc rs pc lv (vI n :: vI dp :: .ref a :: vI sp :: .ref a0 :: rest) h Q := by
  have e : c = 0 ∨ c = 1 ∨ c = 2 ∨ c = 3 := by omega
  rcases e with rfl | rfl | rfl | rfl
  · rw [arrW_0] at ha0 ha1 kk
    simp only [inW_0] at hfi
    exact g_copyB hd hlink ha0 ha1 h1 h2 h3 h4 h5 hn0 hn1 hfi hq kk hw
  · rw [arrW_1] at ha0 ha1 kk
    simp only [inW_1] at hfi
    exact g_copyS hd hlink ha0 ha1 h1 h2 h3 h4 h5 hn0 hn1 hfi hq kk hw
  · rw [arrW_2] at ha0 ha1 kk
    exact g_copyI hd hlink ha0 ha1 h1 h2 h3 h4 h5 hn0 hn1 hq kk hw
  · rw [arrW_3] at ha0 ha1 kk
    exact g_copyL hd hlink ha0 ha1 h1 h2 h3 h4 h5 hn0 hn1 hq kk hw
theorem r_copyW (hc : 0 ≤ c ∧ c ≤ 3) (hd : decode I.2.1 pc = .ok (.invokestatic idx, 3)) (hlink : Cond.methodLink I.1.cls idx arraycopyName ∈ lw_all) (ha0 : h.1 a0 = some (arrW E c n0 f)) (ha1 : h.1 a = some (arrW E c n1 g)) (i1 : in32 sp) (i2 : in32 dp) (i3 : in32 n) (hout : ¬ (0 ≤ sp ∧ 0 ≤ dp ∧ 0 ≤ n ∧ sp + n ≤ n0 ∧ dp + n ≤ n1)) (hn0 : n0 < 1000) (hn1 : n1 < 1000) (hdd : 170 ≤ d) (hw : (rest.map fun v => v.category).sum ≤ 20)
    (kk : ∀ fs, FLY E I d rc rs pc lv (h.2 + 2) (hexc h 20 fs) Q) : GO E I d (rc + 3) (rs + 1010) pc lv (vI n :: vI dp :: .ref a :: vI sp :: .ref a0 :: rest) h Q := by
  have e : c = 0 ∨ c = 1 ∨ c = 2 ∨ c = 3 := by omega
  rcases e with rfl | rfl | rfl | rfl
  · rw [arrW_0] at ha0 ha1
    exact r_copy (ty := .byte) (C0 := vp_cell (E.2.1 1) (n0, .inl (fun j => Int32.ofInt (f (j : Int))))) (C1 := vp_cell (E.2.1 1) (n1, .inl (fun j => Int32.ofInt (g (j : Int))))) hd hlink (fun H hR => (hR.2.2.2 a0 _ ha0).2) (fun H hR => (hR.2.2.2 a _ ha1).2) (fun s hK => ⟨(hK.2 1 _ rfl).1 n0 (fun j => .int (Int32.ofInt (f (j : Int)))), (hK.2 1 _ rfl).1 n1 (fun j => .int (Int32.ofInt (g (j : Int))))⟩) (arrV_size ..) (arrV_size ..) rfl i1 i2 i3 hout hn0 hn1 hdd hw kk
  · rw [arrW_1] at ha0 ha1
    exact r_copy (ty := .short) (C0 := vp_cell (E.2.1 2) (n0, .inl (fun j => Int32.ofInt (f (j : Int))))) (C1 := vp_cell (E.2.1 2) (n1, .inl (fun j => Int32.ofInt (g (j : Int))))) hd hlink (fun H hR => (hR.2.2.2 a0 _ ha0).2) (fun H hR => (hR.2.2.2 a _ ha1).2) (fun s hK => ⟨(hK.2 2 _ rfl).1 n0 (fun j => .int (Int32.ofInt (f (j : Int)))), (hK.2 2 _ rfl).1 n1 (fun j => .int (Int32.ofInt (g (j : Int))))⟩) (arrV_size ..) (arrV_size ..) rfl i1 i2 i3 hout hn0 hn1 hdd hw kk
  · rw [arrW_2] at ha0 ha1
    exact r_copy (ty := .int) (C0 := vp_cell (E.2.1 0) (n0, .inl (fun j => Int32.ofInt (f (j : Int))))) (C1 := vp_cell (E.2.1 0) (n1, .inl (fun j => Int32.ofInt (g (j : Int))))) hd hlink (fun H hR => (hR.2.2.2 a0 _ ha0).2) (fun H hR => (hR.2.2.2 a _ ha1).2) (fun s hK => ⟨(hK.2 0 _ rfl).1 n0 (fun j => .int (Int32.ofInt (f (j : Int)))), (hK.2 0 _ rfl).1 n1 (fun j => .int (Int32.ofInt (g (j : Int))))⟩) (arrV_size ..) (arrV_size ..) rfl i1 i2 i3 hout hn0 hn1 hdd hw kk
  · rw [arrW_3] at ha0 ha1
    exact r_copy (ty := .long) (C0 := vp_cell (E.2.1 3) (n0, .inr (.inl (fun j => Int64.ofInt (f (j : Int)))))) (C1 := vp_cell (E.2.1 3) (n1, .inr (.inl (fun j => Int64.ofInt (g (j : Int)))))) hd hlink (fun H hR => (hR.2.2.2 a0 _ ha0).2) (fun H hR => (hR.2.2.2 a _ ha1).2) (fun s hK => ⟨(hK.2 3 _ rfl).1 n0 (fun j => .long (Int64.ofInt (f (j : Int)))), (hK.2 3 _ rfl).1 n1 (fun j => .long (Int64.ofInt (g (j : Int))))⟩) (arrV_size ..) (arrV_size ..) rfl i1 i2 i3 hout hn0 hn1 hdd hw kk
end
section
variable {E : gE} {d a0 a1 b b0 b1 n0 n1 a : Nat} {h : gH} {f g : Int → Int} {i k n c c1 : Int} {Q : Outcome → gH → Prop} {x1 x2 x3 x4 x5 x0 : Option Value}
theorem c_widthW (hb : h.1 b = some (oB 6 [.ref a])) (ha : h.1 a = some (arrW E c n0 f)) (hc : 0 ≤ c ∧ c ≤ 3) : CALL E iX5_width d 0 0 [.ref b] h (qR (vI c) h) := by
  have e : c = 0 ∨ c = 1 ∨ c = 2 ∨ c = 3 := by omega
  rcases e with rfl | rfl | rfl | rfl
  · rw [arrW_0] at ha; exact c_widthB hb ha
  · rw [arrW_1] at ha; exact c_widthS hb ha
  · rw [arrW_2] at ha; exact c_widthI hb ha
  · rw [arrW_3] at ha; exact c_widthJ hb ha
theorem c_pastesN0 (hb0 : h.1 b0 = some (oB 6 [.null])) : CALL E iX5_pastes d 0 0 [.ref b0, vI i, .ref b1, vI k, vI n] h (qR (vI (-6)) h) := by
  show GO E iX5_pastes _ _ _ 0 [some (.ref b0), some (vI i), some (.ref b1), some (vI k), some (vI n), none] [] _ _
  refine g_aload_n (q := 1) dX5_pastes_0 rfl rfl ?_
  refine g_get (C := RX5) (T := TX5) (ci := 6) (k := 0) (q := 4) dX5_pastes_1 q513 rfl in_X5 (by decide) hb0 rfl rfl ?_
  refine g_ifnullN (t := 14) dX5_pastes_4 (by decide) ?_
  refine g_bipush (q := 16) dX5_pastes_14 rfl ?_
  exact g_iret dX5_pastes_16 rfl ⟨rfl, rfl⟩
theorem c_pastesN1 (hb0 : h.1 b0 = some (oB 6 [.ref a0])) (hb1 : h.1 b1 = some (oB 6 [.null])) : CALL E iX5_pastes d 0 0 [.ref b0, vI i, .ref b1, vI k, vI n] h (qR (vI (-6)) h) := by
  show GO E iX5_pastes _ _ _ 0 [some (.ref b0), some (vI i), some (.ref b1), some (vI k), some (vI n), none] [] _ _
  refine g_aload_n (q := 1) dX5_pastes_0 rfl rfl ?_
  refine g_get (C := RX5) (T := TX5) (ci := 6) (k := 0) (q := 4) dX5_pastes_1 q513 rfl in_X5 (by decide) hb0 rfl rfl ?_
  refine g_ifnullR (q := 7) dX5_pastes_4 rfl ?_
  refine g_aload_n (q := 8) dX5_pastes_7 rfl rfl ?_
  refine g_get (C := RX5) (T := TX5) (ci := 6) (k := 0) (q := 11) dX5_pastes_8 q513 rfl in_X5 (by decide) hb1 rfl rfl ?_
  refine g_ifnonnullN (q := 14) dX5_pastes_11 rfl ?_
  refine g_bipush (q := 16) dX5_pastes_14 rfl ?_
  exact g_iret dX5_pastes_16 rfl ⟨rfl, rfl⟩
theorem c_pastesU (hb0 : h.1 b0 = some (oB 6 [.ref a0])) (hb1 : h.1 b1 = some (oB 6 [.ref a1])) (ha0 : h.1 a0 = some (arrW E c n0 f)) (ha1 : h.1 a1 = some (arrW E c1 n1 g)) (hc : 0 ≤ c ∧ c ≤ 3) (hc1 : 0 ≤ c1 ∧ c1 ≤ 3) (hne : c ≠ c1) : CALL E iX5_pastes (d + 1) 0 0 [.ref b0, vI i, .ref b1, vI k, vI n] h (qR (vI (-8)) h) := by
  show GO E iX5_pastes _ _ _ 0 [some (.ref b0), some (vI i), some (.ref b1), some (vI k), some (vI n), none] [] _ _
  refine g_aload_n (q := 1) dX5_pastes_0 rfl rfl ?_
  refine g_get (C := RX5) (T := TX5) (ci := 6) (k := 0) (q := 4) dX5_pastes_1 q513 rfl in_X5 (by decide) hb0 rfl rfl ?_
  refine g_ifnullR (q := 7) dX5_pastes_4 rfl ?_
  refine g_aload_n (q := 8) dX5_pastes_7 rfl rfl ?_
  refine g_get (C := RX5) (T := TX5) (ci := 6) (k := 0) (q := 11) dX5_pastes_8 q513 rfl in_X5 (by decide) hb1 rfl rfl ?_
  refine g_ifnonnullR (t := 17) dX5_pastes_11 (by decide) ?_
  refine g_aload_n (q := 18) dX5_pastes_17 rfl rfl ?_
  refine g_cv (I' := iX5_width) (mc := 0) (ms := 0) (rc := 0) (rs := 0) (ci := 6) (q := 21) dX5_pastes_18 q316 q318 rfl qs4 gcX5_width hb0 (c_widthW hb0 ha0 hc) rfl rfl ?_
  refine g_aload_n (q := 22) dX5_pastes_21 rfl rfl ?_
  refine g_cv (I' := iX5_width) (mc := 0) (ms := 0) (rc := 0) (rs := 0) (ci := 6) (q := 25) dX5_pastes_22 q316 q318 rfl qs4 gcX5_width hb1 (c_widthW hb1 ha1 hc1) rfl rfl ?_
  refine g_icmp_eq (t := 31) (q := 28) dX5_pastes_25 (by decide) rfl (by first | assumption | exact in32_gB | exact in32_gCmp | (unfold in32; omega)) (by first | assumption | exact in32_gB | exact in32_gCmp | (unfold in32; omega)) (fun c25 => ?_) (fun c25 => ?_)
  · exact absurd c25 hne
  · refine g_bipush (q := 30) dX5_pastes_28 rfl ?_
    exact g_iret dX5_pastes_30 rfl ⟨rfl, rfl⟩
theorem c_pastesG (hb0 : h.1 b0 = some (oB 6 [.ref a0])) (hb1 : h.1 b1 = some (oB 6 [.ref a1])) (ha0 : h.1 a0 = some (arrW E c n0 f)) (ha1 : h.1 a1 = some (arrW E c n1 g)) (hc : 0 ≤ c ∧ c ≤ 3) (hin : 0 ≤ i ∧ 0 ≤ k ∧ 0 ≤ n ∧ i + n ≤ n0 ∧ k + n ≤ n1) (hn : n0 < 1000 ∧ n1 < 1000) (hfi : ∀ j : Int, 0 ≤ j → j < n0 → inW c (f j)) : CALL E iX5_pastes (d + 1) 0 0 [.ref b0, vI i, .ref b1, vI k, vI n] h (qR (vI 0) (hset h a1 (arrW E c n1 (cpyI g f k i n)))) := by
  show GO E iX5_pastes _ _ _ 0 [some (.ref b0), some (vI i), some (.ref b1), some (vI k), some (vI n), none] [] _ _
  refine g_aload_n (q := 1) dX5_pastes_0 rfl rfl ?_
  refine g_get (C := RX5) (T := TX5) (ci := 6) (k := 0) (q := 4) dX5_pastes_1 q513 rfl in_X5 (by decide) hb0 rfl rfl ?_
  refine g_ifnullR (q := 7) dX5_pastes_4 rfl ?_
  refine g_aload_n (q := 8) dX5_pastes_7 rfl rfl ?_
  refine g_get (C := RX5) (T := TX5) (ci := 6) (k := 0) (q := 11) dX5_pastes_8 q513 rfl in_X5 (by decide) hb1 rfl rfl ?_
  refine g_ifnonnullR (t := 17) dX5_pastes_11 (by decide) ?_
  refine g_aload_n (q := 18) dX5_pastes_17 rfl rfl ?_
  refine g_cv (I' := iX5_width) (mc := 0) (ms := 0) (rc := 0) (rs := 0) (ci := 6) (q := 21) dX5_pastes_18 q316 q318 rfl qs4 gcX5_width hb0 (c_widthW hb0 ha0 hc) rfl rfl ?_
  refine g_aload_n (q := 22) dX5_pastes_21 rfl rfl ?_
  refine g_cv (I' := iX5_width) (mc := 0) (ms := 0) (rc := 0) (rs := 0) (ci := 6) (q := 25) dX5_pastes_22 q316 q318 rfl qs4 gcX5_width hb1 (c_widthW hb1 ha1 hc) rfl rfl ?_
  refine g_icmp_eq (t := 31) (q := 28) dX5_pastes_25 (by decide) rfl (by first | assumption | exact in32_gB | exact in32_gCmp | (unfold in32; omega)) (by first | assumption | exact in32_gB | exact in32_gCmp | (unfold in32; omega)) (fun c25 => ?_) (fun c25 => ?_)
  · refine g_aload_n (q := 32) dX5_pastes_31 rfl rfl ?_
    refine g_get (C := RX5) (T := TX5) (ci := 6) (k := 0) (q := 35) dX5_pastes_32 q513 rfl in_X5 (by decide) hb0 rfl rfl ?_
    refine g_iload_n (q := 36) dX5_pastes_35 rfl rfl ?_
    refine g_aload_n (q := 37) dX5_pastes_36 rfl rfl ?_
    refine g_get (C := RX5) (T := TX5) (ci := 6) (k := 0) (q := 40) dX5_pastes_37 q513 rfl in_X5 (by decide) hb1 rfl rfl ?_
    refine g_iload_n (q := 41) dX5_pastes_40 rfl rfl ?_
    refine g_iload (q := 43) dX5_pastes_41 rfl rfl ?_
    refine g_copyW (q := 46) hc dX5_pastes_43 q320 ha0 ha1 hin.1 hin.2.1 hin.2.2.1 hin.2.2.2.1 hin.2.2.2.2 (by omega) (by omega) (fun j z1 z2 => hfi _ (by omega) (by omega)) rfl ?_
    refine g_goto (t := 54) dX5_pastes_46 (by decide) ?_
    refine g_iconst (q := 55) dX5_pastes_54 rfl ?_
    exact g_iret dX5_pastes_55 rfl ⟨rfl, rfl⟩
  · exact absurd rfl c25
theorem l_pastes49 (hq : Q (.returned (some (vI (-7)))) h) : GO E iX5_pastes d 0 0 49 [some (.ref b0), some (vI i), some (.ref b1), some (vI k), some (vI n), none] [.ref a] h Q := by
  refine g_astore (q := 51) dX5_pastes_49 gs5 rfl ?_
  refine g_bipush (q := 53) dX5_pastes_51 rfl ?_
  exact g_iret dX5_pastes_53 rfl hq
theorem c_pastesO (hb0 : h.1 b0 = some (oB 6 [.ref a0])) (hb1 : h.1 b1 = some (oB 6 [.ref a1])) (ha0 : h.1 a0 = some (arrW E c n0 f)) (ha1 : h.1 a1 = some (arrW E c n1 g)) (hc : 0 ≤ c ∧ c ≤ 3) (i1 : in32 i) (i2 : in32 k) (i3 : in32 n) (hout : ¬ (0 ≤ i ∧ 0 ≤ k ∧ 0 ≤ n ∧ i + n ≤ n0 ∧ k + n ≤ n1)) (hn : n0 < 1000 ∧ n1 < 1000) : CALL E iX5_pastes (d + 171) 3 1010 [.ref b0, vI i, .ref b1, vI k, vI n] h (qP fun o k' => o = vI (-7) ∧ ∃ fs, k' = hexc h 20 fs) := by
  show GO E iX5_pastes _ _ _ 0 [some (.ref b0), some (vI i), some (.ref b1), some (vI k), some (vI n), none] [] _ _
  refine g_aload_n (q := 1) dX5_pastes_0 rfl rfl ?_
  refine g_get (C := RX5) (T := TX5) (ci := 6) (k := 0) (q := 4) dX5_pastes_1 q513 rfl in_X5 (by decide) hb0 rfl rfl ?_
  refine g_ifnullR (q := 7) dX5_pastes_4 rfl ?_
  refine g_aload_n (q := 8) dX5_pastes_7 rfl rfl ?_
  refine g_get (C := RX5) (T := TX5) (ci := 6) (k := 0) (q := 11) dX5_pastes_8 q513 rfl in_X5 (by decide) hb1 rfl rfl ?_
  refine g_ifnonnullR (t := 17) dX5_pastes_11 (by decide) ?_
  refine g_aload_n (q := 18) dX5_pastes_17 rfl rfl ?_
  refine g_cv (I' := iX5_width) (mc := 0) (ms := 0) (rc := 3) (rs := 1010) (ci := 6) (q := 21) dX5_pastes_18 q316 q318 rfl qs4 gcX5_width hb0 (c_widthW hb0 ha0 hc) rfl rfl ?_
  refine g_aload_n (q := 22) dX5_pastes_21 rfl rfl ?_
  refine g_cv (I' := iX5_width) (mc := 0) (ms := 0) (rc := 3) (rs := 1010) (ci := 6) (q := 25) dX5_pastes_22 q316 q318 rfl qs4 gcX5_width hb1 (c_widthW hb1 ha1 hc) rfl rfl ?_
  refine g_icmp_eq (t := 31) (q := 28) dX5_pastes_25 (by decide) rfl (by first | assumption | exact in32_gB | exact in32_gCmp | (unfold in32; omega)) (by first | assumption | exact in32_gB | exact in32_gCmp | (unfold in32; omega)) (fun c25 => ?_) (fun c25 => ?_)
  · refine g_aload_n (q := 32) dX5_pastes_31 rfl rfl ?_
    refine g_get (C := RX5) (T := TX5) (ci := 6) (k := 0) (q := 35) dX5_pastes_32 q513 rfl in_X5 (by decide) hb0 rfl rfl ?_
    refine g_iload_n (q := 36) dX5_pastes_35 rfl rfl ?_
    refine g_aload_n (q := 37) dX5_pastes_36 rfl rfl ?_
    refine g_get (C := RX5) (T := TX5) (ci := 6) (k := 0) (q := 40) dX5_pastes_37 q513 rfl in_X5 (by decide) hb1 rfl rfl ?_
    refine g_iload_n (q := 41) dX5_pastes_40 rfl rfl ?_
    refine g_iload (q := 43) dX5_pastes_41 rfl rfl ?_
    exact r_copyW (rc := 0) (rs := 0) hc dX5_pastes_43 q320 ha0 ha1 i1 i2 i3 hout hn.1 hn.2 (by omega) (Nat.le_of_ble_eq_true rfl) (fun fs => FLY.catch (q := 49) (FND.hit (ci := 20) (fs := fs) (by decide) (by decide) hset_at rfl q315 q1918) (l_pastes49 ⟨_, rfl, rfl, fs, rfl⟩))
  · exact absurd rfl c25
end
