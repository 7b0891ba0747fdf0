/-! THE COMPONENT: the book replayed by other laws -/
set_option maxRecDepth 100000
/-- what is read of the component while it replays -/
def XVW (E : gE) (x : Nat) (ow : OW) (h : gH) (t : Nat) (w : Int → Int) (lo si : Int) (bk : Int → Int) (td fk fp : Int) : Prop :=
  (ow x = 1 ∧ ow (x + 2) = 10) ∧ (∃ bl, h.1 x = some (xO x td fk fp bl)) ∧ h.1 (x + 2) = some (stO (x + 2) t w lo) ∧ S_R E ow h 0 (x + 2) w ∧ S_B E ow h 0 (x + 2) si bk
theorem XVW.fr {E : gE} {x : Nat} {ow ow' : OW} {h h' : gH} {t : Nat} {w bk : Int → Int} {lo si td fk fp : Int} {p : Nat → Prop} (hV : XVW E x ow h t w lo si bk td fk fp) (hF : FR ow ow' h h' p) (h0 : p 0) (h1 : p 1) (h2 : p 10) (h3 : p 11) (h4 : p 12) : XVW E x ow' h' t w lo si bk td fk fp := by
  obtain ⟨⟨w1, w2⟩, ⟨bl, hC⟩, hO, hR, hB⟩ := hV
  obtain ⟨a1, b1⟩ := hF.at w1 h1 hC
  obtain ⟨a2, b2⟩ := hF.at w2 h2 hO
  exact ⟨⟨a1, a2⟩, ⟨bl, b1⟩, b2, hR.fr hF h0 h3, hB.fr hF h0 h4⟩
theorem fbL_0 {w bk : Int → Int} {kl kn : Int} : ∀ (f : Nat) (i : Int) (hs : Int → Int), fbL w bk kl kn f i (hs, 0) = 0 := by
  intro f
  cases f with
  | zero => intro i hs; rfl
  | succ f => intro i hs; exact if_pos rfl
section
variable {E : gE} {d x t ra : Nat} {ow : OW} {h k : gH} {w hs1 bk : Int → Int} {lo si td fk fp kl kn r i n B : Int} {Q : Outcome → gH → Prop}
theorem c_rowAtV (hV : XVW E x ow h t w lo si bk td fk fp) (hr : 0 ≤ r) (hr1 : r < w 2) : CALL E iX0_rowAt (d + 3) 0 0 [.ref x, vI r] h (qP fun v k => ∃ ra, v = .ref ra ∧ ROWc E (imm ow) h.1 w r ra ∧ k = h) := by
  obtain ⟨-, ⟨bl, hC⟩, hO, ⟨rr, ⟨ar, cap, mo, g, -, hl, hla, hn, hcap, hg⟩, hR⟩, -⟩ := hV
  have hRr := hR r hr hr1
  obtain ⟨-, g2, hrow, -⟩ := id hRr
  show GO E iX0_rowAt _ _ _ 0 [some (.ref x), some (vI r)] [] _ _
  refine g_aload_n (q := 1) dX0_rowAt_0 rfl rfl ?_
  refine g_get (C := RX0) (T := TX0) (ci := 0) (k := 1) (q := 4) dX0_rowAt_1 q519 rfl in_X0 (by decide) hC rfl rfl ?_
  refine g_getN (C := RX1) (T := TX1) (ci := 1) (k := 1) (q := 7) dX0_rowAt_4 q480 rfl in_X1 (by decide) hO rfl rfl ?_
  refine g_iload_n (q := 8) dX0_rowAt_7 rfl rfl ?_
  refine g_cf (I' := iJ2_get) (mc := 0) (ms := 0) (rc := 0) (rs := 0) (ci := 3) (q := 13) dX0_rowAt_8 q997 q952 q951 q956 q954 q712 (by decide) gcJ2_get.2.1 q955 rfl q953 gcJ2_get hl (c_lget hl hla hr hr1 hn.2 (by omega)) rfl rfl ?_
  rw [hg r hr hr1]
  refine g_castI (q := 16) dX0_rowAt_13 q998 (hrow) rfl ?_
  exact g_aret dX0_rowAt_16 rfl (by first | exact Or.inl ⟨_, rfl⟩ | exact Or.inr ⟨_, rfl⟩) ⟨_, rfl, _, rfl, hRr, rfl⟩
theorem XVW.paper (hV : XVW E x ow h t w lo si bk td fk fp) (w6 : OWN ow (x + 120) 103 2) (hk : hHx E h (x + 120) t hs1 k) : XVW E x ow k t w lo si bk td fk fp := by
  obtain ⟨h1, e1, t1, o1, b1, rfl⟩ := hk
  exact hV.fr (FR.bl w6) (by decide) (by decide) (by decide) (by decide) (by decide)
theorem ROWc.un (w6 : OWN ow (x + 120) 103 2) (hk : hHx E h (x + 120) t hs1 k) (hR : ROWc E (imm ow) k.1 w r ra) : ROWc E (imm ow) h.1 w r ra := by
  obtain ⟨q, g, hg, hg2⟩ := hR
  refine ⟨q, g, ?_, hg2⟩
  obtain ⟨h1, e1, t1, o1, b1, rfl⟩ := hk
  have h0 := imm_0 q
  exact (blk_out (w6.ne (by omega))).symm.trans hg
/-- readings replayed, head at 113 -/
theorem l_rep1 (hV : XVW E x ow h t w lo si bk td fk fp) (w6 : OWN ow (x + 120) 103 2) (hT : TXT E (imm ow) h.1 w kl kn t) (hw : WFw w) (hkn : in32 kn) {bi : Nat} (hi : 0 ≤ i ∧ i < 60) (hbi : ow bi = 0 ∧ h.1 bi = some (sitO bk i)) (hb0 : 0 ≤ bk (6 * i) ∧ bk (6 * i) < w 2) (hb1 : 0 ≤ bk (6 * i + 1) ∧ bk (6 * i + 1) ≤ 50) :
    ∀ (f : Nat) (j B : Int) (hs1 : Int → Int) (k : gH), 0 ≤ j → j + f = bk (6 * i + 1) → HSok B hs1 → 0 ≤ B → B + f ≤ 900000000 → HZ w hs1 → hHx E h (x + 120) t hs1 k →
    (∀ k', HZ w (mRdN w kl kn (bk (6 * i)) f hs1) → hHx E h (x + 120) t (mRdN w kl kn (bk (6 * i)) f hs1) k' → ∀ x3, GO E iX0_replays (d + 1304) 0 0 142 [some (.ref x), some (vI i), some (.ref bi), x3] [] k' Q) →
    GO E iX0_replays (d + 1304) 0 0 113 [some (.ref x), some (vI i), some (.ref bi), some (vI j)] [] k Q := by
  intro f
  induction f with
  | zero =>
    intro j B hs1 k h0 h1 hh hB0 hB hZ hk kk
    have hbk : k.1 bi = some (sitO bk i) := by
      obtain ⟨h1, e1, t1, o1, b1, rfl⟩ := hk
      exact (blk_out (w6.ne (by omega))).trans hbi.2
    refine g_iload_n (q := 114) dX0_replays_113 rfl rfl ?_
    refine g_aload_n (q := 115) dX0_replays_114 rfl rfl ?_
    refine g_getN (C := RX16) (T := TX16) (ci := 17) (k := 1) (q := 118) dX0_replays_115 q1104 rfl in_X16 (by decide) hbk rfl rfl ?_
    refine g_icmp_ge (t := 142) (q := 121) dX0_replays_118 (by decide) rfl (by first | assumption | exact in32_gB | exact in32_gCmp | (unfold in32; omega)) (by first | assumption | exact in32_gB | exact in32_gCmp | (unfold in32; omega)) (fun c118 => ?_) (fun c118 => ?_)
    · exact kk _ hZ hk _
    · exact absurd c118 (by omega)
  | succ f ih =>
    intro j B hs1 k h0 h1 hh hB0 hB hZ hk kk
    have hbk : k.1 bi = some (sitO bk i) := by
      obtain ⟨h1, e1, t1, o1, b1, rfl⟩ := hk
      exact (blk_out (w6.ne (by omega))).trans hbi.2
    have hV1 := hV.paper w6 hk
    obtain ⟨-, ⟨bl1, hC1⟩, -⟩ := id hV1
    have hh2 := hh.reads (kl := kl) (kn := kn) hw hb0.1 hb0.2
    have cR : ∀ ra, ROWc E (imm ow) h.1 w (bk (6 * i)) ra → CALL E iX3_reads (d + 1303) 0 0 [.ref (x + 120), .ref ra] k (qVP fun k => HZ w (mReads w hs1 kl kn (bk (6 * i))) ∧ hHx E h (x + 120) t (mReads w hs1 kl kn (bk (6 * i))) k) := fun ra hR => by
      obtain ⟨h1, e1, t1, o1, b1, rfl⟩ := hk
      exact GO.deep (c_readsX (d := 0) (hT.av (w6.av (by decide))) hw hh hZ (by omega) hkn hb0.1 hb0.2 (hR.av (w6.av (by decide)))) (by omega)
    refine g_iload_n (q := 114) dX0_replays_113 rfl rfl ?_
    refine g_aload_n (q := 115) dX0_replays_114 rfl rfl ?_
    refine g_getN (C := RX16) (T := TX16) (ci := 17) (k := 1) (q := 118) dX0_replays_115 q1104 rfl in_X16 (by decide) hbk rfl rfl ?_
    refine g_icmp_ge (t := 142) (q := 121) dX0_replays_118 (by decide) rfl (by first | assumption | exact in32_gB | exact in32_gCmp | (unfold in32; omega)) (by first | assumption | exact in32_gB | exact in32_gCmp | (unfold in32; omega)) (fun c118 => ?_) (fun c118 => ?_)
    · exact absurd c118 (by omega)
    · refine g_aload_n (q := 122) dX0_replays_121 rfl rfl ?_
      refine g_get (C := RX0) (T := TX0) (ci := 0) (k := 3) (q := 125) dX0_replays_122 q521 rfl in_X0 (by decide) hC1 rfl rfl ?_
      refine g_aload_n (q := 126) dX0_replays_125 rfl rfl ?_
      refine g_aload_n (q := 127) dX0_replays_126 rfl rfl ?_
      refine g_getN (C := RX16) (T := TX16) (ci := 17) (k := 0) (q := 130) dX0_replays_127 q1102 rfl in_X16 (by decide) hbk rfl rfl ?_
      refine g_cvP (I' := iX0_rowAt) (mc := 0) (ms := 0) (rc := 0) (rs := 0) (ci := 0) (q := 133) dX0_replays_130 q992 q994 rfl qs28 gcX0_rowAt hC1 (GO.deep (c_rowAtV (d := 0) hV1 hb0.1 hb0.2) (by omega)) rfl rfl (fun v130 k130 z130 => ?_)
      obtain ⟨ra, rfl, hR, rfl⟩ := z130
      refine g_cvVP (I' := iX3_reads) (mc := 0) (ms := 0) (rc := 0) (rs := 0) (ci := 4) (q := 136) dX0_replays_133 q1013 q1014 rfl q1015 gcX3_reads (PP.p hk) (cR ra (ROWc.un w6 hk hR)) rfl rfl (fun k133 z133 => ?_)
      obtain ⟨hZ5, hk5⟩ := z133
      refine g_iinc (q := 139) dX0_replays_136 rfl gs3 rfl ?_
      refine g_goto (t := 113) dX0_replays_139 (by decide) ?_
      exact ih _ (B + 1) _ _ (by omega) (by omega) hh2 (by omega) (by omega) hZ5 hk5 kk
theorem c_replaysX (hV : XVW E x ow h t w lo si bk td fk fp) (w6 : OWN ow (x + 120) 103 2) {tx : Option Nat} {hs0 : Int → Int} (d6 : HD E h (x + 120) tx hs0) (hT : TXT E (imm ow) h.1 w kl kn t) (hw : WFw w) (hkn : in32 kn) (hs00 : 0 ≤ si ∧ si ≤ 60) (hok : BKok w bk si) :
    CALL E iX0_replays (d + 1304) 0 0 [.ref x] h (qP fun v k => v = vI (mFits w bk kl kn si) ∧ (mFits w bk kl kn si = 0 ∨ mFits w bk kl kn si = 1) ∧ ∃ hs1, hHx E h (x + 120) t hs1 k) := by
  obtain ⟨h1, e1, t1, o1, b1, eh⟩ := d6.self
  have cD := c_clearsX (E := E) (d := d + 1302) (G := h) (p := x + 120) (t := t) (tx := tx) (hs := hs0) (ak := akO h1 e1 t1 o1 b1)
  rw [← eh] at cD
  obtain ⟨-, ⟨bl, hC⟩, hO, -⟩ := id hV
  have loop : ∀ (f : Nat) (i B : Int) (hs1 : Int → Int) (k : gH) (x2 x3 : Option Value), HSok B hs1 → HZ w hs1 → 0 ≤ B → B + 1000050 * f ≤ 800000000 → 0 ≤ i → i + f = si → hHx E h (x + 120) t hs1 k → fbL w bk kl kn f i (hs1, 1) = mFits w bk kl kn si →
      GO E iX0_replays (d + 1304) 0 0 16 [some (.ref x), some (vI i), x2, x3] [] k (qP fun v k => v = vI (mFits w bk kl kn si) ∧ (mFits w bk kl kn si = 0 ∨ mFits w bk kl kn si = 1) ∧ ∃ hs1, hHx E h (x + 120) t hs1 k) := by
    intro f
    induction f with
    | zero =>
      intro i B hs1 k x2 x3 hh hZ hB0 hB q0 q1 hk q3
      have e : mFits w bk kl kn si = 1 := q3.symm
      obtain ⟨-, ⟨bl1, hC1⟩, hO1, -, ⟨bb, ⟨ar, cap, mo, g, -, hl, -⟩, -⟩⟩ := hV.paper w6 hk
      refine g_iload_n (q := 17) dX0_replays_16 rfl rfl ?_
      refine g_aload_n (q := 18) dX0_replays_17 rfl rfl ?_
      refine g_get (C := RX0) (T := TX0) (ci := 0) (k := 1) (q := 21) dX0_replays_18 q519 rfl in_X0 (by decide) hC1 rfl rfl ?_
      refine g_getN (C := RX1) (T := TX1) (ci := 1) (k := 2) (q := 24) dX0_replays_21 q482 rfl in_X1 (by decide) hO1 rfl rfl ?_
      refine g_cf (I' := iJ2_size) (mc := 0) (ms := 0) (rc := 0) (rs := 0) (ci := 3) (q := 29) dX0_replays_24 q974 q711 q710 q716 q714 q712 (by decide) gcJ2_size.2.1 q715 rfl q713 gcJ2_size hl (c_lsize hl) rfl rfl ?_
      refine g_icmp_ge (t := 148) (q := 32) dX0_replays_29 (by decide) rfl (by first | assumption | exact in32_gB | exact in32_gCmp | (unfold in32; omega)) (by first | assumption | exact in32_gB | exact in32_gCmp | (unfold in32; omega)) (fun c29 => ?_) (fun c29 => ?_)
      · refine g_iconst (q := 149) dX0_replays_148 rfl ?_
        exact g_zret1 dX0_replays_149 rfl ⟨_, rfl, by rw [e], Or.inr e, _, hk⟩
      · exact absurd c29 (by omega)
    | succ f ih =>
      intro i B hs1 k x2 x3 hh hZ hB0 hB q0 q1 hk q3
      have hV1 := hV.paper w6 hk
      obtain ⟨-, ⟨bl1, hC1⟩, hO1, -, ⟨bb, ⟨ar, cap, mo, g, -, hl, hla, hn, hcap, hg⟩, hBs⟩⟩ := id hV1
      obtain ⟨j1, j2, j3, j4⟩ := hok i q0 (by omega)
      obtain ⟨bo, bc⟩ := hBs i q0 (by omega)
      have hbh : h.1 (bb i) = some (sitO bk i) := by
        obtain ⟨h1, e1, t1, o1, b1, rfl⟩ := hk
        exact (blk_out (w6.ne (by omega))).symm.trans bc
      obtain ⟨g1, g2, g3⟩ := fbS_ok (kl := kl) (kn := kn) (bk := bk) (i := i) hw hh hB0 j1 j2 j3
      have q4 : fbL w bk kl kn f (i + 1) (fbS w bk kl kn i hs1) = mFits w bk kl kn si := by
        rw [← q3]
        exact (if_neg (by decide : ¬ (1 : Int) = 0)).symm
      have hh6 := hh.2.1
      have cW : CALL E iX3_waits (d + 1303) 0 0 [.ref (x + 120), vI (bk (6 * i + 2) - hs1 2016)] k (qVP fun k => HZ w (fbH w bk kl kn i hs1) ∧ hHx E h (x + 120) t (fbH w bk kl kn i hs1) k) := by
        obtain ⟨h1, e1, t1, o1, b1, rfl⟩ := hk
        exact GO.deep (c_waitsX (d := 0) (hT.av (w6.av (by decide))) hw hB0 (by omega) hkn (by omega) hh hZ) (by omega)
      have cL : ∀ k1, HZ w (fbH w bk kl kn i hs1) → hHx E h (x + 120) t (fbH w bk kl kn i hs1) k1 → ∀ ra, ROWc E (imm ow) h.1 w (bk (6 * i)) ra → CALL E iX3_learns (d + 1303) 0 0 [.ref (x + 120), .ref ra, vI (-1)] k1 (qP fun v k => v = vI (mLearns w (fbH w bk kl kn i hs1) kl kn (bk (6 * i))).1 ∧ HZ w (mLearns w (fbH w bk kl kn i hs1) kl kn (bk (6 * i))).2 ∧ hHx E h (x + 120) t (mLearns w (fbH w bk kl kn i hs1) kl kn (bk (6 * i))).2 k) := fun k1 hZ1 hk1 ra hR => by
        obtain ⟨h1, e1, t1, o1, b1, rfl⟩ := hk1
        have z := c_learnsX (d := d) (h1 := h1) (e1 := e1) (t1 := t1) (o1 := o1) (b1 := b1) (wo := -1) (hT.av (w6.av (by decide))) hw g1 hZ1 (by omega) hkn j1.1 j1.2 (hR.av (w6.av (by decide))) (by decide)
        rw [woW_n] at z
        exact z
      have ok2 := (mLearns_ok (kl := kl) (kn := kn) hw j1.1 j1.2 g1).2
      refine g_iload_n (q := 17) dX0_replays_16 rfl rfl ?_
      refine g_aload_n (q := 18) dX0_replays_17 rfl rfl ?_
      refine g_get (C := RX0) (T := TX0) (ci := 0) (k := 1) (q := 21) dX0_replays_18 q519 rfl in_X0 (by decide) hC1 rfl rfl ?_
      refine g_getN (C := RX1) (T := TX1) (ci := 1) (k := 2) (q := 24) dX0_replays_21 q482 rfl in_X1 (by decide) hO1 rfl rfl ?_
      refine g_cf (I' := iJ2_size) (mc := 0) (ms := 0) (rc := 0) (rs := 0) (ci := 3) (q := 29) dX0_replays_24 q974 q711 q710 q716 q714 q712 (by decide) gcJ2_size.2.1 q715 rfl q713 gcJ2_size hl (c_lsize hl) rfl rfl ?_
      refine g_icmp_ge (t := 148) (q := 32) dX0_replays_29 (by decide) rfl (by first | assumption | exact in32_gB | exact in32_gCmp | (unfold in32; omega)) (by first | assumption | exact in32_gB | exact in32_gCmp | (unfold in32; omega)) (fun c29 => ?_) (fun c29 => ?_)
      · exact absurd c29 (by omega)
      · refine g_aload_n (q := 33) dX0_replays_32 rfl rfl ?_
        refine g_get (C := RX0) (T := TX0) (ci := 0) (k := 1) (q := 36) dX0_replays_33 q519 rfl in_X0 (by decide) hC1 rfl rfl ?_
        refine g_getN (C := RX1) (T := TX1) (ci := 1) (k := 2) (q := 39) dX0_replays_36 q482 rfl in_X1 (by decide) hO1 rfl rfl ?_
        refine g_iload_n (q := 40) dX0_replays_39 rfl rfl ?_
        refine g_cf (I' := iJ2_get) (mc := 0) (ms := 0) (rc := 0) (rs := 0) (ci := 3) (q := 45) dX0_replays_40 q997 q952 q951 q956 q954 q712 (by decide) gcJ2_get.2.1 q955 rfl q953 gcJ2_get hl (GO.deep (c_lget (d := 0) hl hla q0 (by omega) hn.2 (by omega)) (by omega)) rfl rfl ?_
        rw [hg i q0 (by omega)]
        refine g_castO (ci := 17) (q := 48) dX0_replays_45 rfl q1095 (bc) rfl ?_
        refine g_astore_n (q := 49) dX0_replays_48 gs2 rfl ?_
        refine g_aload_n (q := 50) dX0_replays_49 rfl rfl ?_
        refine g_get (C := RX0) (T := TX0) (ci := 0) (k := 3) (q := 53) dX0_replays_50 q521 rfl in_X0 (by decide) hC1 rfl rfl ?_
        refine g_aload_n (q := 54) dX0_replays_53 rfl rfl ?_
        refine g_getN (C := RX16) (T := TX16) (ci := 17) (k := 2) (q := 57) dX0_replays_54 q1106 rfl in_X16 (by decide) bc rfl rfl ?_
        refine g_aload_n (q := 58) dX0_replays_57 rfl rfl ?_
        refine g_get (C := RX0) (T := TX0) (ci := 0) (k := 3) (q := 61) dX0_replays_58 q521 rfl in_X0 (by decide) hC1 rfl rfl ?_
        refine g_getN (C := RX3) (T := TX3) (ci := 4) (k := 3) (q := 64) dX0_replays_61 q455 rfl in_X3 (by decide) (PP.p hk) rfl rfl ?_
        refine g_isub (q := 65) dX0_replays_64 rfl ?_
        refine g_cvVP (I' := iX3_waits) (mc := 0) (ms := 0) (rc := 0) (rs := 0) (ci := 4) (q := 68) dX0_replays_65 q1150 q1151 rfl q1152 gcX3_waits (PP.p hk) (cW) rfl rfl (fun k65 z65 => ?_)
        obtain ⟨hZ6, hk6⟩ := z65
        have hV6 := hV.paper w6 hk6
        obtain ⟨-, ⟨bl6, hC6⟩, -⟩ := id hV6
        have bc6 : k65.1 (bb i) = some (sitO bk i) := by obtain ⟨h1, e1, t1, o1, b1, rfl⟩ := hk6; exact (blk_out (w6.ne (by omega))).trans hbh
        refine g_aload_n (q := 69) dX0_replays_68 rfl rfl ?_
        refine g_getN (C := RX16) (T := TX16) (ci := 17) (k := 5) (q := 72) dX0_replays_69 q1112 rfl in_X16 (by decide) bc6 rfl rfl ?_
        refine g_ifeqB (t := 111) (q := 75) dX0_replays_72 (by decide) rfl (fun c72 => ?_) (fun c72 => ?_)
        · refine g_iconst (q := 112) dX0_replays_111 rfl ?_
          refine g_istore_n (q := 113) dX0_replays_112 gs3 rfl ?_
          refine l_rep1 (d := d) hV w6 hT hw hkn ⟨q0, by omega⟩ ⟨bo, hbh⟩ j1 j2 (bk (6 * i + 1)).toNat 0 _ _ _ (by omega) (by omega) g1 (by omega) (by omega) hZ6 hk6 (fun k' hZ' hk' x3' => ?_)
          have eS : fbS w bk kl kn i hs1 = (mRdN w kl kn (bk (6 * i)) (bk (6 * i + 1)).toNat (fbH w bk kl kn i hs1), 1) := if_pos (Decidable.not_not.mp c72)
          rw [eS] at q4 g2
          have hZ8 := hZ'
          have hk8 := hk'
          refine g_iinc (q := 145) dX0_replays_142 rfl gs1 rfl ?_
          refine g_goto (t := 16) dX0_replays_145 (by decide) ?_
          first
          | exact ih (i + 1) (B + 1000050) _ _ _ _ g2 hZ8 (by omega) (by omega) (by omega) (by omega) hk8 q4
          | (rw [if_neg (show ¬ bk (6 * i + 5) = 2 from c95), if_pos c106] at q4; exact ih (i + 1) (B + 1000050) _ _ _ _ g2 hZ8 (by omega) (by omega) (by omega) (by omega) hk8 q4)
          | (rw [if_pos (Decidable.not_not.mp c95), if_pos c106] at q4; exact ih (i + 1) (B + 1000050) _ _ _ _ g2 hZ8 (by omega) (by omega) (by omega) (by omega) hk8 q4)
        · refine g_aload_n (q := 76) dX0_replays_75 rfl rfl ?_
          refine g_get (C := RX0) (T := TX0) (ci := 0) (k := 3) (q := 79) dX0_replays_76 q521 rfl in_X0 (by decide) hC6 rfl rfl ?_
          refine g_aload_n (q := 80) dX0_replays_79 rfl rfl ?_
          refine g_aload_n (q := 81) dX0_replays_80 rfl rfl ?_
          refine g_getN (C := RX16) (T := TX16) (ci := 17) (k := 0) (q := 84) dX0_replays_81 q1102 rfl in_X16 (by decide) bc6 rfl rfl ?_
          refine g_cvP (I' := iX0_rowAt) (mc := 0) (ms := 0) (rc := 0) (rs := 0) (ci := 0) (q := 87) dX0_replays_84 q992 q994 rfl qs28 gcX0_rowAt hC6 (GO.deep (c_rowAtV (d := 0) hV6 j1.1 j1.2) (by omega)) rfl rfl (fun v84 k84 z84 => ?_)
          obtain ⟨ra, rfl, hR, rfl⟩ := z84
          refine g_iconst (q := 88) dX0_replays_87 rfl ?_
          refine g_cvP (I' := iX3_learns) (mc := 0) (ms := 0) (rc := 0) (rs := 0) (ci := 4) (q := 91) dX0_replays_88 q1136 q1137 rfl q1138 gcX3_learns (PP.p hk6) (cL _ hZ6 hk6 ra (ROWc.un w6 hk6 hR)) rfl rfl (fun v88 k88 z88 => ?_)
          obtain ⟨rfl, hZ8, hk8⟩ := z88
          have bc8 : k88.1 (bb i) = some (sitO bk i) := by obtain ⟨h1, e1, t1, o1, b1, rfl⟩ := hk8; exact (blk_out (w6.ne (by omega))).trans hbh
          have eS : fbS w bk kl kn i hs1 = ((mLearns w (fbH w bk kl kn i hs1) kl kn (bk (6 * i))).2, if (mLearns w (fbH w bk kl kn i hs1) kl kn (bk (6 * i))).1 = (if bk (6 * i + 5) = 2 then -1 else bk (6 * i + 1)) then 1 else 0) := if_neg c72
          rw [eS] at q4 g2
          refine g_aload_n (q := 92) dX0_replays_91 rfl rfl ?_
          refine g_getN (C := RX16) (T := TX16) (ci := 17) (k := 6) (q := 95) dX0_replays_92 q1114 rfl in_X16 (by decide) bc8 rfl rfl ?_
          refine g_ifeqB (t := 105) (q := 98) dX0_replays_95 (by decide) rfl (fun c95 => ?_) (fun c95 => ?_)
          · refine g_iconst (q := 106) dX0_replays_105 rfl ?_
            refine g_icmp_eq (t := 142) (q := 109) dX0_replays_106 (by decide) rfl (by unfold in32; omega) (by unfold in32; omega) (fun c106 => ?_) (fun c106 => ?_)
            · refine g_iinc (q := 145) dX0_replays_142 rfl gs1 rfl ?_
              refine g_goto (t := 16) dX0_replays_145 (by decide) ?_
              first
              | exact ih (i + 1) (B + 1000050) _ _ _ _ g2 hZ8 (by omega) (by omega) (by omega) (by omega) hk8 q4
              | (rw [if_neg (show ¬ bk (6 * i + 5) = 2 from c95), if_pos c106] at q4; exact ih (i + 1) (B + 1000050) _ _ _ _ g2 hZ8 (by omega) (by omega) (by omega) (by omega) hk8 q4)
              | (rw [if_pos (Decidable.not_not.mp c95), if_pos c106] at q4; exact ih (i + 1) (B + 1000050) _ _ _ _ g2 hZ8 (by omega) (by omega) (by omega) (by omega) hk8 q4)
            · refine g_iconst (q := 110) dX0_replays_109 rfl ?_
              exact g_zret0 dX0_replays_110 rfl (by
have e : mFits w bk kl kn si = 0 := by
  rw [← q4]
  first
  | (rw [if_neg (show ¬ bk (6 * i + 5) = 2 from c95), if_neg c106]; exact fbL_0 _ _ _)
  | (rw [if_pos (Decidable.not_not.mp c95), if_neg c106]; exact fbL_0 _ _ _)
exact ⟨_, rfl, by rw [e], Or.inl e, _, hk8⟩)
          · refine g_aload_n (q := 99) dX0_replays_98 rfl rfl ?_
            refine g_getN (C := RX16) (T := TX16) (ci := 17) (k := 1) (q := 102) dX0_replays_99 q1104 rfl in_X16 (by decide) bc8 rfl rfl ?_
            refine g_goto (t := 106) dX0_replays_102 (by decide) ?_
            refine g_icmp_eq (t := 142) (q := 109) dX0_replays_106 (by decide) rfl (by unfold in32; omega) (by unfold in32; omega) (fun c106 => ?_) (fun c106 => ?_)
            · refine g_iinc (q := 145) dX0_replays_142 rfl gs1 rfl ?_
              refine g_goto (t := 16) dX0_replays_145 (by decide) ?_
              first
              | exact ih (i + 1) (B + 1000050) _ _ _ _ g2 hZ8 (by omega) (by omega) (by omega) (by omega) hk8 q4
              | (rw [if_neg (show ¬ bk (6 * i + 5) = 2 from c95), if_pos c106] at q4; exact ih (i + 1) (B + 1000050) _ _ _ _ g2 hZ8 (by omega) (by omega) (by omega) (by omega) hk8 q4)
              | (rw [if_pos (Decidable.not_not.mp c95), if_pos c106] at q4; exact ih (i + 1) (B + 1000050) _ _ _ _ g2 hZ8 (by omega) (by omega) (by omega) (by omega) hk8 q4)
            · refine g_iconst (q := 110) dX0_replays_109 rfl ?_
              exact g_zret0 dX0_replays_110 rfl (by
have e : mFits w bk kl kn si = 0 := by
  rw [← q4]
  first
  | (rw [if_neg (show ¬ bk (6 * i + 5) = 2 from c95), if_neg c106]; exact fbL_0 _ _ _)
  | (rw [if_pos (Decidable.not_not.mp c95), if_neg c106]; exact fbL_0 _ _ _)
exact ⟨_, rfl, by rw [e], Or.inl e, _, hk8⟩)
  show GO E iX0_replays _ _ _ 0 [some (.ref x), none, none, none] [] _ _
  refine g_aload_n (q := 1) dX0_replays_0 rfl rfl ?_
  refine g_get (C := RX0) (T := TX0) (ci := 0) (k := 3) (q := 4) dX0_replays_1 q521 rfl in_X0 (by decide) hC rfl rfl ?_
  refine g_aload_n (q := 5) dX0_replays_4 rfl rfl ?_
  refine g_get (C := RX0) (T := TX0) (ci := 0) (k := 1) (q := 8) dX0_replays_5 q519 rfl in_X0 (by decide) hC rfl rfl ?_
  refine g_getN (C := RX1) (T := TX1) (ci := 1) (k := 0) (q := 11) dX0_replays_8 q478 rfl in_X1 (by decide) hO rfl rfl ?_
  refine g_cvV (I' := iX3_clears) (mc := 0) (ms := 0) (rc := 0) (rs := 0) (ci := 4) (q := 14) dX0_replays_11 q1284 q470 rfl q471 gcX3_clears d6.ob (cD) rfl rfl ?_
  refine g_iconst (q := 15) dX0_replays_14 rfl ?_
  refine g_istore_n (q := 16) dX0_replays_15 gs1 rfl ?_
  exact loop si.toNat 0 0 (fun _ => 0) _ _ _ ⟨fun k _ _ => ⟨Int.le_refl 0, (by decide : (0 : Int) ≤ 1000)⟩, ⟨Int.le_refl 0, Int.le_refl 0⟩, ⟨Int.le_refl 0, Int.le_refl 0⟩⟩ (HZ.zero fun k _ _ => rfl) (by omega) (by omega) (by omega) (by omega) ⟨_, _, _, _, _, rfl⟩ rfl
end
