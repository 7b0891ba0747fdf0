/-! THE REFERENCE: readLine -/
set_option maxRecDepth 100000
/-- not, where omega does not look -/
def NOT (p : Prop) : Prop := ¬ p
section
variable {E : gE} {d rc rs am : Nat} {G : gH}
variable {th si lo td sz pa fr tk vl fk fp hdt kl kn cd bp bl : Int} {w hs bk iW iH iB iL iS tp fv fsh lt cp md sw nd mn my wd nm mv : Int → Int}
variable {s a b r r2 i k v e B c n l p j low high : Int} {Q : Outcome → gH → Prop} {x : Nat} {bs : List Int}
theorem l_end {x1 x2 : Option Value} (hz : sz ≤ 900) (hP : PSt sz (pa, fr, tk, vl, fk, fp, fsh, hdt, lt)) : GO E iX6_readLine (d + 8) 0 0 371 [some (.ref am), x1, x2] [] (mH E G am th w hs si lo bk iW iH iB iL iS tp td fv sz pa fr tk vl fk fp fsh hdt lt kl kn cp cd bp bl md sw nd mn my wd nm mv) ((qVP fun kP => ∃ pa_ fr_ tk_ vl_ fk_ fp_ fsh_ hdt_ lt_, (pa_, fr_, tk_, vl_, fk_, fp_, fsh_, hdt_, lt_) = enP tp sz (pa, fr, tk, vl, fk, fp, fsh, hdt, lt) ∧ kP = (mH E G am th w hs si lo bk iW iH iB iL iS tp td fv sz pa_ fr_ tk_ vl_ fk_ fp_ fsh_ hdt_ lt_ kl kn cp cd bp bl md sw nd mn my wd nm mv))) := by
  have p1 : 0 ≤ fr ∧ fr ≤ pa ∧ pa ≤ sz := hP.1
  have p2 : 0 ≤ tk ∧ tk ≤ 4 := hP.2.1
  have p4 : 0 ≤ fk ∧ fk ≤ 3 := hP.2.2.2.1
  by_cases z : tk = 3
  · by_cases y : fk = 0
    · rw [show enP tp sz (pa, fr, tk, vl, fk, fp, fsh, hdt, lt) = PSf (upI fsh 0 (fsh 0 + 1)) (PSadv tp sz (pa, fr, tk, vl, fk, fp, fsh, hdt, lt)) by unfold enP; rw [show en1 (pa, fr, tk, vl, fk, fp, fsh, hdt, lt) = (pa, fr, tk, vl, fk, fp, fsh, hdt, lt) from if_pos z, show en2 tp sz (pa, fr, tk, vl, fk, fp, fsh, hdt, lt) = PSadv tp sz (pa, fr, tk, vl, fk, fp, fsh, hdt, lt) from if_pos y]; rfl]
      refine g_aload_n (q := 372) dX6_readLine_371 rfl rfl ?_
      refine gm_get (k := 17) (q := 375) dX6_readLine_372 q1411 (by decide) rfl rfl ?_
      refine g_iconst (q := 376) dX6_readLine_375 rfl ?_
      refine g_icmp_eq (t := 384) (q := 379) dX6_readLine_376 (by decide) rfl (by first | assumption | exact in32_gB | exact in32_gCmp | (unfold in32; omega)) (by first | assumption | exact in32_gB | exact in32_gCmp | (unfold in32; omega)) (fun c376 => ?_) (fun c376 => ?_)
      · refine g_aload_n (q := 385) dX6_readLine_384 rfl rfl ?_
        refine g_cv (I' := iX6_good) (mc := 0) (ms := 0) (rc := 0) (rs := 0) (ci := 7) (q := 388) dX6_readLine_385 q1555 q1557 rfl qs45 gcX6_good mO (c_good (by unfold in32; omega)) rfl rfl ?_
        refine g_ifeqB (t := 395) (q := 391) dX6_readLine_388 (by decide) rfl (fun c388 => ?_) (fun c388 => ?_)
        · exact absurd y c388
        · refine g_aload_n (q := 392) dX6_readLine_391 rfl rfl ?_
          refine g_cvV (I' := iX6_advance) (mc := 0) (ms := 0) (rc := 0) (rs := 0) (ci := 7) (q := 395) dX6_readLine_392 q1541 q1543 rfl qs43 gcX6_advance mO (c_advance hz (by omega) p1.2.2) rfl rfl ?_
          refine g_aload_n (q := 396) dX6_readLine_395 rfl rfl ?_
          refine gm_get (k := 21) (q := 399) dX6_readLine_396 q1415 (by decide) rfl rfl ?_
          refine g_iconst (q := 400) dX6_readLine_399 rfl ?_
          refine g_dup2 (q := 401) dX6_readLine_400 rfl ?_
          refine g_iald (q := 402) dX6_readLine_401 mA21 (by omega) (by omega) rfl ?_
          refine g_iconst (q := 403) dX6_readLine_402 rfl ?_
          refine g_iadd (q := 404) dX6_readLine_403 rfl ?_
          refine gm_st21 (q := 405) dX6_readLine_404 (by omega) (by omega)  rfl ?_
          exact g_vret dX6_readLine_405 rfl ⟨rfl, _, _, _, _, _, _, _, _, _, rfl, rfl⟩
      · exact absurd z c376
    · rw [show enP tp sz (pa, fr, tk, vl, fk, fp, fsh, hdt, lt) = PSf (upI fsh 0 (fsh 0 + 1)) (pa, fr, tk, vl, fk, fp, fsh, hdt, lt) by unfold enP; rw [show en1 (pa, fr, tk, vl, fk, fp, fsh, hdt, lt) = (pa, fr, tk, vl, fk, fp, fsh, hdt, lt) from if_pos z, show en2 tp sz (pa, fr, tk, vl, fk, fp, fsh, hdt, lt) = (pa, fr, tk, vl, fk, fp, fsh, hdt, lt) from if_neg y]]
      refine g_aload_n (q := 372) dX6_readLine_371 rfl rfl ?_
      refine gm_get (k := 17) (q := 375) dX6_readLine_372 q1411 (by decide) rfl rfl ?_
      refine g_iconst (q := 376) dX6_readLine_375 rfl ?_
      refine g_icmp_eq (t := 384) (q := 379) dX6_readLine_376 (by decide) rfl (by first | assumption | exact in32_gB | exact in32_gCmp | (unfold in32; omega)) (by first | assumption | exact in32_gB | exact in32_gCmp | (unfold in32; omega)) (fun c376 => ?_) (fun c376 => ?_)
      · refine g_aload_n (q := 385) dX6_readLine_384 rfl rfl ?_
        refine g_cv (I' := iX6_good) (mc := 0) (ms := 0) (rc := 0) (rs := 0) (ci := 7) (q := 388) dX6_readLine_385 q1555 q1557 rfl qs45 gcX6_good mO (c_good (by unfold in32; omega)) rfl rfl ?_
        refine g_ifeqB (t := 395) (q := 391) dX6_readLine_388 (by decide) rfl (fun c388 => ?_) (fun c388 => ?_)
        · refine g_aload_n (q := 396) dX6_readLine_395 rfl rfl ?_
          refine gm_get (k := 21) (q := 399) dX6_readLine_396 q1415 (by decide) rfl rfl ?_
          refine g_iconst (q := 400) dX6_readLine_399 rfl ?_
          refine g_dup2 (q := 401) dX6_readLine_400 rfl ?_
          refine g_iald (q := 402) dX6_readLine_401 mA21 (by omega) (by omega) rfl ?_
          refine g_iconst (q := 403) dX6_readLine_402 rfl ?_
          refine g_iadd (q := 404) dX6_readLine_403 rfl ?_
          refine gm_st21 (q := 405) dX6_readLine_404 (by omega) (by omega)  rfl ?_
          exact g_vret dX6_readLine_405 rfl ⟨rfl, _, _, _, _, _, _, _, _, _, rfl, rfl⟩
        · exact absurd c388 y
      · exact absurd z c376
  · by_cases y : fk = 0
    · rw [show enP tp sz (pa, fr, tk, vl, fk, fp, fsh, hdt, lt) = PSf (upI fsh 0 (fsh 0 + 1)) (PSerr 1 (pa, fr, tk, vl, fk, fp, fsh, hdt, lt)) by unfold enP; rw [show en1 (pa, fr, tk, vl, fk, fp, fsh, hdt, lt) = PSerr 1 (pa, fr, tk, vl, fk, fp, fsh, hdt, lt) from (if_neg z).trans (if_pos y), show en2 tp sz (PSerr 1 (pa, fr, tk, vl, fk, fp, fsh, hdt, lt)) = PSerr 1 (pa, fr, tk, vl, fk, fp, fsh, hdt, lt) from if_neg (by show ¬ (1 : Int) = 0; decide)]; rfl]
      refine g_aload_n (q := 372) dX6_readLine_371 rfl rfl ?_
      refine gm_get (k := 17) (q := 375) dX6_readLine_372 q1411 (by decide) rfl rfl ?_
      refine g_iconst (q := 376) dX6_readLine_375 rfl ?_
      refine g_icmp_eq (t := 384) (q := 379) dX6_readLine_376 (by decide) rfl (by first | assumption | exact in32_gB | exact in32_gCmp | (unfold in32; omega)) (by first | assumption | exact in32_gB | exact in32_gCmp | (unfold in32; omega)) (fun c376 => ?_) (fun c376 => ?_)
      · exact absurd c376 z
      · refine g_aload_n (q := 380) dX6_readLine_379 rfl rfl ?_
        refine g_iconst (q := 381) dX6_readLine_380 rfl ?_
        refine g_cvV (I' := iX6_errs) (mc := 0) (ms := 0) (rc := 0) (rs := 0) (ci := 7) (q := 384) dX6_readLine_381 q1576 q1578 rfl qs48 gcX6_errs mO (c_errs y) rfl rfl ?_
        refine g_aload_n (q := 385) dX6_readLine_384 rfl rfl ?_
        refine g_cv (I' := iX6_good) (mc := 0) (ms := 0) (rc := 0) (rs := 0) (ci := 7) (q := 388) dX6_readLine_385 q1555 q1557 rfl qs45 gcX6_good mO (c_good (by unfold in32; omega)) rfl rfl ?_
        refine g_ifeqB (t := 395) (q := 391) dX6_readLine_388 (by decide) rfl (fun c388 => ?_) (fun c388 => ?_)
        · refine g_aload_n (q := 396) dX6_readLine_395 rfl rfl ?_
          refine gm_get (k := 21) (q := 399) dX6_readLine_396 q1415 (by decide) rfl rfl ?_
          refine g_iconst (q := 400) dX6_readLine_399 rfl ?_
          refine g_dup2 (q := 401) dX6_readLine_400 rfl ?_
          refine g_iald (q := 402) dX6_readLine_401 mA21 (by omega) (by omega) rfl ?_
          refine g_iconst (q := 403) dX6_readLine_402 rfl ?_
          refine g_iadd (q := 404) dX6_readLine_403 rfl ?_
          refine gm_st21 (q := 405) dX6_readLine_404 (by omega) (by omega)  rfl ?_
          exact g_vret dX6_readLine_405 rfl ⟨rfl, _, _, _, _, _, _, _, _, _, rfl, rfl⟩
        · exact absurd c388 (by decide)
    · rw [show enP tp sz (pa, fr, tk, vl, fk, fp, fsh, hdt, lt) = PSf (upI fsh 0 (fsh 0 + 1)) (pa, fr, tk, vl, fk, fp, fsh, hdt, lt) by unfold enP; rw [show en1 (pa, fr, tk, vl, fk, fp, fsh, hdt, lt) = (pa, fr, tk, vl, fk, fp, fsh, hdt, lt) from (if_neg z).trans (if_neg y), show en2 tp sz (pa, fr, tk, vl, fk, fp, fsh, hdt, lt) = (pa, fr, tk, vl, fk, fp, fsh, hdt, lt) from if_neg y]]
      refine g_aload_n (q := 372) dX6_readLine_371 rfl rfl ?_
      refine gm_get (k := 17) (q := 375) dX6_readLine_372 q1411 (by decide) rfl rfl ?_
      refine g_iconst (q := 376) dX6_readLine_375 rfl ?_
      refine g_icmp_eq (t := 384) (q := 379) dX6_readLine_376 (by decide) rfl (by first | assumption | exact in32_gB | exact in32_gCmp | (unfold in32; omega)) (by first | assumption | exact in32_gB | exact in32_gCmp | (unfold in32; omega)) (fun c376 => ?_) (fun c376 => ?_)
      · exact absurd c376 z
      · refine g_aload_n (q := 380) dX6_readLine_379 rfl rfl ?_
        refine g_iconst (q := 381) dX6_readLine_380 rfl ?_
        refine g_cvV (I' := iX6_errs) (mc := 0) (ms := 0) (rc := 0) (rs := 0) (ci := 7) (q := 384) dX6_readLine_381 q1576 q1578 rfl qs48 gcX6_errs mO (c_errs_no (by unfold in32; omega) y) rfl rfl ?_
        refine g_aload_n (q := 385) dX6_readLine_384 rfl rfl ?_
        refine g_cv (I' := iX6_good) (mc := 0) (ms := 0) (rc := 0) (rs := 0) (ci := 7) (q := 388) dX6_readLine_385 q1555 q1557 rfl qs45 gcX6_good mO (c_good (by unfold in32; omega)) rfl rfl ?_
        refine g_ifeqB (t := 395) (q := 391) dX6_readLine_388 (by decide) rfl (fun c388 => ?_) (fun c388 => ?_)
        · refine g_aload_n (q := 396) dX6_readLine_395 rfl rfl ?_
          refine gm_get (k := 21) (q := 399) dX6_readLine_396 q1415 (by decide) rfl rfl ?_
          refine g_iconst (q := 400) dX6_readLine_399 rfl ?_
          refine g_dup2 (q := 401) dX6_readLine_400 rfl ?_
          refine g_iald (q := 402) dX6_readLine_401 mA21 (by omega) (by omega) rfl ?_
          refine g_iconst (q := 403) dX6_readLine_402 rfl ?_
          refine g_iadd (q := 404) dX6_readLine_403 rfl ?_
          refine gm_st21 (q := 405) dX6_readLine_404 (by omega) (by omega)  rfl ?_
          exact g_vret dX6_readLine_405 rfl ⟨rfl, _, _, _, _, _, _, _, _, _, rfl, rfl⟩
        · exact absurd c388 y
theorem l_lean1 {x1 : Option Value} (hz : sz ≤ 900) (hP : PSt sz (pa, fr, tk, vl, fk, fp, fsh, hdt, lt)) (hf : fk = 0) : GO E iX6_readLine (d + 8) 0 0 276 [some (.ref am), x1, some (vI s)] [] (mH E G am th w hs si lo bk iW iH iB iL iS tp td fv sz pa fr tk vl fk fp fsh hdt lt kl kn cp cd bp bl md sw nd mn my wd nm mv) ((qVP fun kP => ∃ pa_ fr_ tk_ vl_ fk_ fp_ fsh_ hdt_ lt_, (pa_, fr_, tk_, vl_, fk_, fp_, fsh_, hdt_, lt_) = enP tp sz (PSerr 1 (pa, fr, tk, vl, fk, fp, fsh, hdt, lt)) ∧ kP = (mH E G am th w hs si lo bk iW iH iB iL iS tp td fv sz pa_ fr_ tk_ vl_ fk_ fp_ fsh_ hdt_ lt_ kl kn cp cd bp bl md sw nd mn my wd nm mv))) := by
  refine g_aload_n (q := 277) dX6_readLine_276 rfl rfl ?_
  refine g_iconst (q := 278) dX6_readLine_277 rfl ?_
  refine g_cvV (I' := iX6_errs) (mc := 0) (ms := 0) (rc := 0) (rs := 0) (ci := 7) (q := 281) dX6_readLine_278 q1576 q1578 rfl qs48 gcX6_errs mO (c_errs hf) rfl rfl ?_
  refine g_goto (t := 298) dX6_readLine_281 (by decide) ?_
  refine g_aload_n (q := 299) dX6_readLine_298 rfl rfl ?_
  refine g_cv (I' := iX6_good) (mc := 0) (ms := 0) (rc := 0) (rs := 0) (ci := 7) (q := 302) dX6_readLine_299 q1555 q1557 rfl qs45 gcX6_good mO (c_good (by unfold in32; omega)) rfl rfl ?_
  refine g_ifeqB (t := 331) (q := 305) dX6_readLine_302 (by decide) rfl (fun c302 => ?_) (fun c302 => ?_)
  · refine g_goto (t := 371) dX6_readLine_331 (by decide) ?_
    exact l_end hz (show PSt sz (pa, fr, tk, vl, 1, fr, fsh, hdt, lt) from hP.err (k := 1) (by decide))
  · exact absurd c302 (by decide)
theorem l_lean2 {x1 : Option Value} (hz : sz ≤ 900) (hO : PSok sz (pa, fr, tk, vl, fk, fp, fsh, hdt, lt)) (hf : fk = 0) (hs0 : 0 ≤ s ∧ s ≤ 3) : GO E iX6_readLine (d + 8) 0 0 284 [some (.ref am), x1, some (vI s)] [] (mH E G am th w hs si lo bk iW iH iB iL iS tp td fv sz pa fr tk vl fk fp fsh hdt lt kl kn cp cd bp bl md sw nd mn my wd nm mv) ((qVP fun kP => ∃ pa_ fr_ tk_ vl_ fk_ fp_ fsh_ hdt_ lt_, (pa_, fr_, tk_, vl_, fk_, fp_, fsh_, hdt_, lt_) = enP tp sz (if lt s = 0 then stQ (5 + s) (nuP tp sz 0 100 (PSadv tp sz (PSl (upI lt s 1) (pa, fr, tk, vl, fk, fp, fsh, hdt, lt)))) else PSerr 2 (pa, fr, tk, vl, fk, fp, fsh, hdt, lt)) ∧ kP = (mH E G am th w hs si lo bk iW iH iB iL iS tp td fv sz pa_ fr_ tk_ vl_ fk_ fp_ fsh_ hdt_ lt_ kl kn cp cd bp bl md sw nd mn my wd nm mv))) := by
  have p1 : 0 ≤ fr ∧ fr ≤ pa ∧ pa ≤ sz := hO.1.1
  have hl : lt s = 0 ∨ lt s = 1 := hO.2.2.2.2 s hs0.1 (by omega)
  by_cases z : lt s = 0
  · rw [if_pos z]
    have hB : PSok sz (PSl (upI lt s 1) (pa, fr, tk, vl, fk, fp, fsh, hdt, lt)) := by
      refine ⟨hO.1, hO.2.1, hO.2.2.1, hO.2.2.2.1, fun j j0 j1 => ?_⟩
      show upI lt s 1 j = 0 ∨ upI lt s 1 j = 1
      by_cases c : j = s
      · subst c; rw [upI_at]; exact Or.inr rfl
      · rw [upI_ne c]; exact hO.2.2.2.2 j j0 j1
    have hC := hB.adv (tp := tp)
    refine g_aload_n (q := 285) dX6_readLine_284 rfl rfl ?_
    refine gm_get (k := 23) (q := 288) dX6_readLine_285 q1417 (by decide) rfl rfl ?_
    refine g_iload_n (q := 289) dX6_readLine_288 rfl rfl ?_
    refine g_zald (q := 290) dX6_readLine_289 mA23 (by omega) (by omega) rfl ?_
    refine g_if_eq (t := 298) (q := 293) dX6_readLine_290 (by decide) rfl (by first | assumption | exact in32_gB | exact in32_gCmp | (unfold in32; omega)) (fun c290 => ?_) (fun c290 => ?_)
    · refine g_aload_n (q := 299) dX6_readLine_298 rfl rfl ?_
      refine g_cv (I' := iX6_good) (mc := 0) (ms := 0) (rc := 0) (rs := 0) (ci := 7) (q := 302) dX6_readLine_299 q1555 q1557 rfl qs45 gcX6_good mO (c_good (by unfold in32; omega)) rfl rfl ?_
      refine g_ifeqB (t := 331) (q := 305) dX6_readLine_302 (by decide) rfl (fun c302 => ?_) (fun c302 => ?_)
      · exact absurd hf c302
      · refine g_aload_n (q := 306) dX6_readLine_305 rfl rfl ?_
        refine gm_get (k := 23) (q := 309) dX6_readLine_306 q1417 (by decide) rfl rfl ?_
        refine g_iload_n (q := 310) dX6_readLine_309 rfl rfl ?_
        refine g_iconst (q := 311) dX6_readLine_310 rfl ?_
        refine gm_st23 (q := 312) dX6_readLine_311 (by omega) (by omega) (by omega) rfl ?_
        refine g_aload_n (q := 313) dX6_readLine_312 rfl rfl ?_
        refine g_cvV (I' := iX6_advance) (mc := 0) (ms := 0) (rc := 0) (rs := 0) (ci := 7) (q := 316) dX6_readLine_313 q1541 q1543 rfl qs43 gcX6_advance mO (c_advance hz (by omega) p1.2.2) rfl rfl ?_
        refine g_aload_n (q := 317) dX6_readLine_316 rfl rfl ?_
        refine gm_get (k := 21) (q := 320) dX6_readLine_317 q1415 (by decide) rfl rfl ?_
        refine g_iconst (q := 321) dX6_readLine_320 rfl ?_
        refine g_iload_n (q := 322) dX6_readLine_321 rfl rfl ?_
        refine g_iadd (q := 323) dX6_readLine_322 rfl ?_
        refine g_aload_n (q := 324) dX6_readLine_323 rfl rfl ?_
        refine g_iconst (q := 325) dX6_readLine_324 rfl ?_
        refine g_bipush (q := 327) dX6_readLine_325 rfl ?_
        refine g_cvP (I' := iX6_number) (mc := 0) (ms := 0) (rc := 0) (rs := 0) (ci := 7) (q := 330) dX6_readLine_327 q1589 q1591 rfl qs51 gcX6_number mO (c_number (d := d + 5) (show PSt sz ((adv tp sz pa vl).1, (adv tp sz pa vl).2.1, (adv tp sz pa vl).2.2.1, (adv tp sz pa vl).2.2.2, fk, fp, fsh, hdt, upI lt s 1) from hC.1) hz (by omega) (by omega)) rfl rfl (fun v327 k327 z327 => ?_)
        obtain ⟨n3, pa3, fr3, tk3, vl3, fk3, fp3, fsh3, hdt3, lt3, e4, rfl, rfl⟩ := z327
        have nuo := hC.nu (tp := tp) (lo := 0) (hi := 100) (by omega)
        replace e4 : (n3, pa3, fr3, tk3, vl3, fk3, fp3, fsh3, hdt3, lt3) = nuP tp sz 0 100 (PSadv tp sz (PSl (upI lt s 1) (pa, fr, tk, vl, fk, fp, fsh, hdt, lt))) := e4
        rw [← e4] at nuo ⊢
        refine gm_st21 (q := 331) dX6_readLine_330 (by omega) (by omega)  rfl ?_
        refine g_goto (t := 371) dX6_readLine_331 (by decide) ?_
        exact l_end hz nuo.1
    · exact absurd z c290
  · rw [if_neg z]
    refine g_aload_n (q := 285) dX6_readLine_284 rfl rfl ?_
    refine gm_get (k := 23) (q := 288) dX6_readLine_285 q1417 (by decide) rfl rfl ?_
    refine g_iload_n (q := 289) dX6_readLine_288 rfl rfl ?_
    refine g_zald (q := 290) dX6_readLine_289 mA23 (by omega) (by omega) rfl ?_
    refine g_if_eq (t := 298) (q := 293) dX6_readLine_290 (by decide) rfl (by first | assumption | exact in32_gB | exact in32_gCmp | (unfold in32; omega)) (fun c290 => ?_) (fun c290 => ?_)
    · exact absurd c290 z
    · refine g_aload_n (q := 294) dX6_readLine_293 rfl rfl ?_
      refine g_iconst (q := 295) dX6_readLine_294 rfl ?_
      refine g_cvV (I' := iX6_errs) (mc := 0) (ms := 0) (rc := 0) (rs := 0) (ci := 7) (q := 298) dX6_readLine_295 q1576 q1578 rfl qs48 gcX6_errs mO (c_errs hf) rfl rfl ?_
      refine g_aload_n (q := 299) dX6_readLine_298 rfl rfl ?_
      refine g_cv (I' := iX6_good) (mc := 0) (ms := 0) (rc := 0) (rs := 0) (ci := 7) (q := 302) dX6_readLine_299 q1555 q1557 rfl qs45 gcX6_good mO (c_good (by unfold in32; omega)) rfl rfl ?_
      refine g_ifeqB (t := 331) (q := 305) dX6_readLine_302 (by decide) rfl (fun c302 => ?_) (fun c302 => ?_)
      · refine g_goto (t := 371) dX6_readLine_331 (by decide) ?_
        exact l_end hz (show PSt sz (pa, fr, tk, vl, 2, fr, fsh, hdt, lt) from hO.1.err (k := 2) (by decide))
      · exact absurd c302 (by decide)
theorem c_line_thing0 (htp : ∀ j, 0 ≤ j → j < 900 → -128 ≤ tp j ∧ tp j < 128) (hz : sz ≤ 900) (hO : PSok sz (pa, fr, tk, vl, fk, fp, fsh, hdt, lt)) (hf : fk = 0) (h : isW tp wThing (pa, fr, tk, vl, fk, fp, fsh, hdt, lt)) (hx : fsh 1 = 24) : CALL E iX6_readLine (d + 8) 0 0 [.ref am] (mH E G am th w hs si lo bk iW iH iB iL iS tp td fv sz pa fr tk vl fk fp fsh hdt lt kl kn cp cd bp bl md sw nd mn my wd nm mv) ((qVP fun kP => ∃ pa_ fr_ tk_ vl_ fk_ fp_ fsh_ hdt_ lt_, (pa_, fr_, tk_, vl_, fk_, fp_, fsh_, hdt_, lt_) = PSerr 3 (pa, fr, tk, vl, fk, fp, fsh, hdt, lt) ∧ kP = (mH E G am th w hs si lo bk iW iH iB iL iS tp td fv sz pa_ fr_ tk_ vl_ fk_ fp_ fsh_ hdt_ lt_ kl kn cp cd bp bl md sw nd mn my wd nm mv))) := by
  have hP := hO.1
  have p1 : 0 ≤ fr ∧ fr ≤ pa ∧ pa ≤ sz := hP.1
  have w1 : 0 ≤ fsh 1 ∧ fsh 1 ≤ 24 := hO.2.1.1.1
  have w2 : 0 ≤ fsh 2 ∧ fsh 2 ≤ 12 := hO.2.1.1.2.1
  have wh : hdt = 0 ∨ hdt = 1 := hO.2.2.2.1
  have hA := hO.adv (tp := tp)
  refine GO.ok fun ok => ?_
  have nrow : NOT (isW tp wRow (pa, fr, tk, vl, fk, fp, fsh, hdt, lt)) := fun q => absurd (isW_inj h q) (by decide)
  have ngrow : NOT (isW tp wGrow (pa, fr, tk, vl, fk, fp, fsh, hdt, lt)) := fun q => absurd (isW_inj h q) (by decide)
  have nfall : NOT (isW tp wFall (pa, fr, tk, vl, fk, fp, fsh, hdt, lt)) := fun q => absurd (isW_inj h q) (by decide)
  have nmix : NOT (isW tp wMix (pa, fr, tk, vl, fk, fp, fsh, hdt, lt)) := fun q => absurd (isW_inj h q) (by decide)
  have nhold : NOT (isW tp wHold (pa, fr, tk, vl, fk, fp, fsh, hdt, lt)) := fun q => absurd (isW_inj h q) (by decide)
  have nlean : NOT (isW tp wLean (pa, fr, tk, vl, fk, fp, fsh, hdt, lt)) := fun q => absurd (isW_inj h q) (by decide)
  show GO E iX6_readLine _ _ _ 0 [some (.ref am), none, none] [] _ _
  refine g_aload_n (q := 1) dX6_readLine_0 rfl rfl ?_
  refine g_ldcS (q := 3) dX6_readLine_1 rfl q1563 (litM_thing ok) rfl ?_
  refine g_cv (I' := iX6_is) (mc := 0) (ms := 0) (rc := 0) (rs := 0) (ci := 7) (q := 6) dX6_readLine_3 q1564 q1566 rfl qs47 gcX6_is mO (c_is (d := d + 3) (litM_thing ok).2 htp hP hz) rfl rfl ?_
  refine g_ifneB (t := 63) (q := 9) dX6_readLine_6 (by decide) rfl (fun c6 => ?_) (fun c6 => ?_)
  · try clear c6
    refine g_iconst (q := 64) dX6_readLine_63 rfl ?_
    refine g_goto (t := 68) dX6_readLine_64 (by decide) ?_
    refine g_istore_n (q := 69) dX6_readLine_68 gs1 rfl ?_
    refine g_iload_n (q := 70) dX6_readLine_69 rfl rfl ?_
    refine g_if_ne (t := 78) (q := 73) dX6_readLine_70 (by decide) rfl (by first | assumption | exact in32_gB | exact in32_gCmp | (unfold in32; omega)) (fun c70 => ?_) (fun c70 => absurd c70 (by decide))
    refine g_aload_n (q := 79) dX6_readLine_78 rfl rfl ?_
    refine g_ldcS (q := 81) dX6_readLine_79 rfl q1574 (litM_hold ok) rfl ?_
    refine g_cv (I' := iX6_is) (mc := 0) (ms := 0) (rc := 0) (rs := 0) (ci := 7) (q := 84) dX6_readLine_81 q1564 q1566 rfl qs47 gcX6_is mO (c_is (d := d + 3) (litM_hold ok).2 htp hP hz) rfl rfl ?_
    refine g_ifeqB (t := 99) (q := 87) dX6_readLine_84 (by decide) rfl (fun c84 => ?_) (fun c84 => ?_)
    · try clear c84
      refine g_aload_n (q := 100) dX6_readLine_99 rfl rfl ?_
      refine g_ldcS (q := 102) dX6_readLine_100 rfl q1563 (litM_thing ok) rfl ?_
      refine g_cv (I' := iX6_is) (mc := 0) (ms := 0) (rc := 0) (rs := 0) (ci := 7) (q := 105) dX6_readLine_102 q1564 q1566 rfl qs47 gcX6_is mO (c_is (d := d + 3) (litM_thing ok).2 htp hP hz) rfl rfl ?_
      refine g_ifeqB (t := 119) (q := 108) dX6_readLine_105 (by decide) rfl (fun c105 => ?_) (fun c105 => ?_)
      · exact absurd h c105
      · refine g_aload_n (q := 109) dX6_readLine_108 rfl rfl ?_
        refine gm_get (k := 21) (q := 112) dX6_readLine_109 q1415 (by decide) rfl rfl ?_
        refine g_iconst (q := 113) dX6_readLine_112 rfl ?_
        refine g_iald (q := 114) dX6_readLine_113 mA21 (by omega) (by omega) rfl ?_
        refine g_bipush (q := 116) dX6_readLine_114 rfl ?_
        refine g_icmp_eq (t := 139) (q := 119) dX6_readLine_116 (by decide) rfl (by first | assumption | exact in32_gB | exact in32_gCmp | (unfold in32; omega)) (by first | assumption | exact in32_gB | exact in32_gCmp | (unfold in32; omega)) (fun c116 => ?_) (fun c116 => ?_)
        · refine g_aload_n (q := 140) dX6_readLine_139 rfl rfl ?_
          refine g_iconst (q := 141) dX6_readLine_140 rfl ?_
          refine g_cvV (I' := iX6_errs) (mc := 0) (ms := 0) (rc := 0) (rs := 0) (ci := 7) (q := 144) dX6_readLine_141 q1576 q1578 rfl qs48 gcX6_errs mO (c_errs hf) rfl rfl ?_
          try clear c125
          refine g_aload_n (q := 145) dX6_readLine_144 rfl rfl ?_
          refine g_cv (I' := iX6_good) (mc := 0) (ms := 0) (rc := 0) (rs := 0) (ci := 7) (q := 148) dX6_readLine_145 q1555 q1557 rfl qs45 gcX6_good mO (c_good (by unfold in32; omega)) rfl rfl ?_
          refine g_ifneB (t := 152) (q := 151) dX6_readLine_148 (by decide) rfl (fun c148 => ?_) (fun c148 => ?_)
          · exact absurd c148 (by decide)
          · exact g_vret dX6_readLine_151 rfl ⟨rfl, _, _, _, _, _, _, _, _, _, rfl, rfl⟩
        · exact absurd hx c116
    · exact absurd c84 nhold
  · exact absurd h c6
theorem c_line_thing (htp : ∀ j, 0 ≤ j → j < 900 → -128 ≤ tp j ∧ tp j < 128) (hz : sz ≤ 900) (hO : PSok sz (pa, fr, tk, vl, fk, fp, fsh, hdt, lt)) (hf : fk = 0) (h : isW tp wThing (pa, fr, tk, vl, fk, fp, fsh, hdt, lt)) (hx : fsh 1 ≠ 24) : CALL E iX6_readLine (d + 8) 0 0 [.ref am] (mH E G am th w hs si lo bk iW iH iB iL iS tp td fv sz pa fr tk vl fk fp fsh hdt lt kl kn cp cd bp bl md sw nd mn my wd nm mv) ((qVP fun kP => ∃ pa_ fr_ tk_ vl_ fk_ fp_ fsh_ hdt_ lt_, (pa_, fr_, tk_, vl_, fk_, fp_, fsh_, hdt_, lt_) = enP tp sz (thP tp sz (pa, fr, tk, vl, fk, fp, fsh, hdt, lt)) ∧ kP = (mH E G am th w hs si lo bk iW iH iB iL iS tp td fv sz pa_ fr_ tk_ vl_ fk_ fp_ fsh_ hdt_ lt_ kl kn cp cd bp bl md sw nd mn my wd nm mv))) := by
  have hP := hO.1
  have p1 : 0 ≤ fr ∧ fr ≤ pa ∧ pa ≤ sz := hP.1
  have w1 : 0 ≤ fsh 1 ∧ fsh 1 ≤ 24 := hO.2.1.1.1
  have w2 : 0 ≤ fsh 2 ∧ fsh 2 ≤ 12 := hO.2.1.1.2.1
  have wh : hdt = 0 ∨ hdt = 1 := hO.2.2.2.1
  have hA := hO.adv (tp := tp)
  refine GO.ok fun ok => ?_
  have nrow : NOT (isW tp wRow (pa, fr, tk, vl, fk, fp, fsh, hdt, lt)) := fun q => absurd (isW_inj h q) (by decide)
  have ngrow : NOT (isW tp wGrow (pa, fr, tk, vl, fk, fp, fsh, hdt, lt)) := fun q => absurd (isW_inj h q) (by decide)
  have nfall : NOT (isW tp wFall (pa, fr, tk, vl, fk, fp, fsh, hdt, lt)) := fun q => absurd (isW_inj h q) (by decide)
  have nmix : NOT (isW tp wMix (pa, fr, tk, vl, fk, fp, fsh, hdt, lt)) := fun q => absurd (isW_inj h q) (by decide)
  have nhold : NOT (isW tp wHold (pa, fr, tk, vl, fk, fp, fsh, hdt, lt)) := fun q => absurd (isW_inj h q) (by decide)
  have nlean : NOT (isW tp wLean (pa, fr, tk, vl, fk, fp, fsh, hdt, lt)) := fun q => absurd (isW_inj h q) (by decide)
  unfold thP
  show GO E iX6_readLine _ _ _ 0 [some (.ref am), none, none] [] _ _
  refine g_aload_n (q := 1) dX6_readLine_0 rfl rfl ?_
  refine g_ldcS (q := 3) dX6_readLine_1 rfl q1563 (litM_thing ok) rfl ?_
  refine g_cv (I' := iX6_is) (mc := 0) (ms := 0) (rc := 0) (rs := 0) (ci := 7) (q := 6) dX6_readLine_3 q1564 q1566 rfl qs47 gcX6_is mO (c_is (d := d + 3) (litM_thing ok).2 htp hP hz) rfl rfl ?_
  refine g_ifneB (t := 63) (q := 9) dX6_readLine_6 (by decide) rfl (fun c6 => ?_) (fun c6 => ?_)
  · try clear c6
    refine g_iconst (q := 64) dX6_readLine_63 rfl ?_
    refine g_goto (t := 68) dX6_readLine_64 (by decide) ?_
    refine g_istore_n (q := 69) dX6_readLine_68 gs1 rfl ?_
    refine g_iload_n (q := 70) dX6_readLine_69 rfl rfl ?_
    refine g_if_ne (t := 78) (q := 73) dX6_readLine_70 (by decide) rfl (by first | assumption | exact in32_gB | exact in32_gCmp | (unfold in32; omega)) (fun c70 => ?_) (fun c70 => absurd c70 (by decide))
    refine g_aload_n (q := 79) dX6_readLine_78 rfl rfl ?_
    refine g_ldcS (q := 81) dX6_readLine_79 rfl q1574 (litM_hold ok) rfl ?_
    refine g_cv (I' := iX6_is) (mc := 0) (ms := 0) (rc := 0) (rs := 0) (ci := 7) (q := 84) dX6_readLine_81 q1564 q1566 rfl qs47 gcX6_is mO (c_is (d := d + 3) (litM_hold ok).2 htp hP hz) rfl rfl ?_
    refine g_ifeqB (t := 99) (q := 87) dX6_readLine_84 (by decide) rfl (fun c84 => ?_) (fun c84 => ?_)
    · try clear c84
      refine g_aload_n (q := 100) dX6_readLine_99 rfl rfl ?_
      refine g_ldcS (q := 102) dX6_readLine_100 rfl q1563 (litM_thing ok) rfl ?_
      refine g_cv (I' := iX6_is) (mc := 0) (ms := 0) (rc := 0) (rs := 0) (ci := 7) (q := 105) dX6_readLine_102 q1564 q1566 rfl qs47 gcX6_is mO (c_is (d := d + 3) (litM_thing ok).2 htp hP hz) rfl rfl ?_
      refine g_ifeqB (t := 119) (q := 108) dX6_readLine_105 (by decide) rfl (fun c105 => ?_) (fun c105 => ?_)
      · exact absurd h c105
      · refine g_aload_n (q := 109) dX6_readLine_108 rfl rfl ?_
        refine gm_get (k := 21) (q := 112) dX6_readLine_109 q1415 (by decide) rfl rfl ?_
        refine g_iconst (q := 113) dX6_readLine_112 rfl ?_
        refine g_iald (q := 114) dX6_readLine_113 mA21 (by omega) (by omega) rfl ?_
        refine g_bipush (q := 116) dX6_readLine_114 rfl ?_
        refine g_icmp_eq (t := 139) (q := 119) dX6_readLine_116 (by decide) rfl (by first | assumption | exact in32_gB | exact in32_gCmp | (unfold in32; omega)) (by first | assumption | exact in32_gB | exact in32_gCmp | (unfold in32; omega)) (fun c116 => ?_) (fun c116 => ?_)
        · exact absurd c116 hx
        · try clear c105
          refine g_aload_n (q := 120) dX6_readLine_119 rfl rfl ?_
          refine g_ldcS (q := 122) dX6_readLine_120 rfl q1570 (litM_row ok) rfl ?_
          refine g_cv (I' := iX6_is) (mc := 0) (ms := 0) (rc := 0) (rs := 0) (ci := 7) (q := 125) dX6_readLine_122 q1564 q1566 rfl qs47 gcX6_is mO (c_is (d := d + 3) (litM_row ok).2 htp hP hz) rfl rfl ?_
          refine g_ifeqB (t := 144) (q := 128) dX6_readLine_125 (by decide) rfl (fun c125 => ?_) (fun c125 => ?_)
          · try clear c125
            refine g_aload_n (q := 145) dX6_readLine_144 rfl rfl ?_
            refine g_cv (I' := iX6_good) (mc := 0) (ms := 0) (rc := 0) (rs := 0) (ci := 7) (q := 148) dX6_readLine_145 q1555 q1557 rfl qs45 gcX6_good mO (c_good (by unfold in32; omega)) rfl rfl ?_
            refine g_ifneB (t := 152) (q := 151) dX6_readLine_148 (by decide) rfl (fun c148 => ?_) (fun c148 => ?_)
            · refine g_aload_n (q := 153) dX6_readLine_152 rfl rfl ?_
              refine g_ldcS (q := 155) dX6_readLine_153 rfl q1563 (litM_thing ok) rfl ?_
              refine g_cvP (I' := iX6_takes) (mc := 0) (ms := 0) (rc := 0) (rs := 0) (ci := 7) (q := 158) dX6_readLine_155 q1580 q1582 rfl qs49 gcX6_takes mO (c_takes1 (d := d + 2) (litM_thing ok).2 htp hP hz h) rfl rfl (fun v155 k155 z155 => ?_)
              obtain ⟨n1, pa1, fr1, tk1, vl1, fk1, fp1, fsh1, hdt1, lt1, e1, rfl, rfl⟩ := z155
              obtain ⟨rfl, eP⟩ := Prod.mk.inj e1
              rw [← eP] at hA ⊢
              obtain ⟨d1, e2⟩ := Prod.mk.inj eP; obtain ⟨d2, e2⟩ := Prod.mk.inj e2; obtain ⟨d3, e2⟩ := Prod.mk.inj e2; obtain ⟨d4, e2⟩ := Prod.mk.inj e2; obtain ⟨d5, e2⟩ := Prod.mk.inj e2; obtain ⟨d6, e2⟩ := Prod.mk.inj e2; obtain ⟨d7, e2⟩ := Prod.mk.inj e2; obtain ⟨d8, d9⟩ := Prod.mk.inj e2
              replace d5 : fk1 = fk := d5
              replace d7 : fsh1 = fsh := d7
              replace d8 : hdt1 = hdt := d8
              replace d9 : lt1 = lt := d9
              refine g_if_eq (t := 210) (q := 161) dX6_readLine_158 (by decide) rfl (by first | assumption | exact in32_gB | exact in32_gCmp | (unfold in32; omega)) (fun c158 => ?_) (fun c158 => ?_)
              · exact absurd c158 (by decide)
              · refine g_aload_n (q := 162) dX6_readLine_161 rfl rfl ?_
                refine g_ldcS (q := 164) dX6_readLine_162 rfl q1584 (litM_easy ok) rfl ?_
                refine g_cvVP (I' := iX6_needsWord) (mc := 0) (ms := 0) (rc := 0) (rs := 0) (ci := 7) (q := 167) dX6_readLine_164 q1585 q1587 rfl qs50 gcX6_needsWord mO (c_needsWord (d := d + 1) (litM_easy ok).2 htp hA.1 hz) rfl rfl (fun k164 z164 => ?_)
                obtain ⟨pa2, fr2, tk2, vl2, fk2, fp2, fsh2, hdt2, lt2, e3, rfl⟩ := z164
                have nwo := hA.nw (tp := tp) (bs := wEasy)
                have nw2 := (hA.1.nw (tp := tp) (bs := wEasy)).2.1
                rw [← e3] at nwo nw2 ⊢
                have g1 : fsh2 = fsh1 := (Prod.mk.inj nw2).1
                refine g_aload_n (q := 168) dX6_readLine_167 rfl rfl ?_
                refine g_iconst (q := 169) dX6_readLine_168 rfl ?_
                refine g_bipush (q := 171) dX6_readLine_169 rfl ?_
                refine g_cvP (I' := iX6_number) (mc := 0) (ms := 0) (rc := 0) (rs := 0) (ci := 7) (q := 174) dX6_readLine_171 q1589 q1591 rfl qs51 gcX6_number mO (c_number (d := d + 5) nwo.1 hz (by omega) (by omega)) rfl rfl (fun v171 k171 z171 => ?_)
                obtain ⟨n3, pa3, fr3, tk3, vl3, fk3, fp3, fsh3, hdt3, lt3, e4, rfl, rfl⟩ := z171
                have nuo := nwo.nu (tp := tp) (lo := 0) (hi := 9) (by omega)
                have nu2 := (nwo.1.nu (tp := tp) (lo := 0) (hi := 9) (by omega)).2.1
                rw [← e4] at nuo nu2 ⊢
                have g2 : fsh3 = fsh2 := (Prod.mk.inj nu2).1
                have g3 : 0 ≤ fk3 ∧ fk3 ≤ 3 := nuo.1.2.2.2.1
                have g4 : fsh3 1 = fsh 1 := by rw [g2, g1, d7]
                refine g_istore_n (q := 175) dX6_readLine_174 gs2 rfl ?_
                refine g_aload_n (q := 176) dX6_readLine_175 rfl rfl ?_
                refine g_cv (I' := iX6_good) (mc := 0) (ms := 0) (rc := 0) (rs := 0) (ci := 7) (q := 179) dX6_readLine_176 q1555 q1557 rfl qs45 gcX6_good mO (c_good (by unfold in32; omega)) rfl rfl ?_
                refine g_ifeqB (t := 207) (q := 182) dX6_readLine_179 (by decide) rfl (fun c179 => ?_) (fun c179 => ?_)
                · refine g_goto (t := 371) dX6_readLine_207 (by decide) ?_
                  first
                  | (rw [show thQ (n3, pa3, fr3, tk3, vl3, fk3, fp3, fsh3, hdt3, lt3) = (pa3, fr3, tk3, vl3, fk3, fp3, fsh3, hdt3, lt3) from if_neg c179]; exact l_end hz nuo.1)
                  | (rw [show thQ (n3, pa3, fr3, tk3, vl3, fk3, fp3, fsh3, hdt3, lt3) = (pa3, fr3, tk3, vl3, fk3, fp3, upI (upI fsh3 (10 + fsh3 1) n3) 1 (upI fsh3 (10 + fsh3 1) n3 1 + 1), hdt3, lt3) from if_pos c179]; exact l_end hz nuo.1)
                · refine g_aload_n (q := 183) dX6_readLine_182 rfl rfl ?_
                  refine gm_get (k := 21) (q := 186) dX6_readLine_183 q1415 (by decide) rfl rfl ?_
                  refine g_bipush (q := 188) dX6_readLine_186 rfl ?_
                  refine g_aload_n (q := 189) dX6_readLine_188 rfl rfl ?_
                  refine gm_get (k := 21) (q := 192) dX6_readLine_189 q1415 (by decide) rfl rfl ?_
                  refine g_iconst (q := 193) dX6_readLine_192 rfl ?_
                  refine g_iald (q := 194) dX6_readLine_193 mA21 (by omega) (by omega) rfl ?_
                  refine g_iadd (q := 195) dX6_readLine_194 rfl ?_
                  refine g_iload_n (q := 196) dX6_readLine_195 rfl rfl ?_
                  refine gm_st21 (q := 197) dX6_readLine_196 (by omega) (by omega)  rfl ?_
                  refine g_aload_n (q := 198) dX6_readLine_197 rfl rfl ?_
                  refine gm_get (k := 21) (q := 201) dX6_readLine_198 q1415 (by decide) rfl rfl ?_
                  refine g_iconst (q := 202) dX6_readLine_201 rfl ?_
                  refine g_dup2 (q := 203) dX6_readLine_202 rfl ?_
                  refine g_iald (q := 204) dX6_readLine_203 mA21 (by omega) (by omega) rfl ?_
                  refine g_iconst (q := 205) dX6_readLine_204 rfl ?_
                  refine g_iadd (q := 206) dX6_readLine_205 rfl ?_
                  refine gm_st21 (q := 207) dX6_readLine_206 (by omega) (by omega)  rfl ?_
                  refine g_goto (t := 371) dX6_readLine_207 (by decide) ?_
                  first
                  | (rw [show thQ (n3, pa3, fr3, tk3, vl3, fk3, fp3, fsh3, hdt3, lt3) = (pa3, fr3, tk3, vl3, fk3, fp3, fsh3, hdt3, lt3) from if_neg c179]; exact l_end hz nuo.1)
                  | (rw [show thQ (n3, pa3, fr3, tk3, vl3, fk3, fp3, fsh3, hdt3, lt3) = (pa3, fr3, tk3, vl3, fk3, fp3, upI (upI fsh3 (10 + fsh3 1) n3) 1 (upI fsh3 (10 + fsh3 1) n3 1 + 1), hdt3, lt3) from if_pos c179]; exact l_end hz nuo.1)
            · exact absurd hf c148
          · exact absurd c125 nrow
    · exact absurd c84 nhold
  · exact absurd h c6
theorem c_line_row0 (htp : ∀ j, 0 ≤ j → j < 900 → -128 ≤ tp j ∧ tp j < 128) (hz : sz ≤ 900) (hO : PSok sz (pa, fr, tk, vl, fk, fp, fsh, hdt, lt)) (hf : fk = 0) (h : isW tp wRow (pa, fr, tk, vl, fk, fp, fsh, hdt, lt)) (hx : fsh 2 = 12) : CALL E iX6_readLine (d + 8) 0 0 [.ref am] (mH E G am th w hs si lo bk iW iH iB iL iS tp td fv sz pa fr tk vl fk fp fsh hdt lt kl kn cp cd bp bl md sw nd mn my wd nm mv) ((qVP fun kP => ∃ pa_ fr_ tk_ vl_ fk_ fp_ fsh_ hdt_ lt_, (pa_, fr_, tk_, vl_, fk_, fp_, fsh_, hdt_, lt_) = PSerr 3 (pa, fr, tk, vl, fk, fp, fsh, hdt, lt) ∧ kP = (mH E G am th w hs si lo bk iW iH iB iL iS tp td fv sz pa_ fr_ tk_ vl_ fk_ fp_ fsh_ hdt_ lt_ kl kn cp cd bp bl md sw nd mn my wd nm mv))) := by
  have hP := hO.1
  have p1 : 0 ≤ fr ∧ fr ≤ pa ∧ pa ≤ sz := hP.1
  have w1 : 0 ≤ fsh 1 ∧ fsh 1 ≤ 24 := hO.2.1.1.1
  have w2 : 0 ≤ fsh 2 ∧ fsh 2 ≤ 12 := hO.2.1.1.2.1
  have wh : hdt = 0 ∨ hdt = 1 := hO.2.2.2.1
  have hA := hO.adv (tp := tp)
  refine GO.ok fun ok => ?_
  have nthing : NOT (isW tp wThing (pa, fr, tk, vl, fk, fp, fsh, hdt, lt)) := fun q => absurd (isW_inj h q) (by decide)
  have ngrow : NOT (isW tp wGrow (pa, fr, tk, vl, fk, fp, fsh, hdt, lt)) := fun q => absurd (isW_inj h q) (by decide)
  have nfall : NOT (isW tp wFall (pa, fr, tk, vl, fk, fp, fsh, hdt, lt)) := fun q => absurd (isW_inj h q) (by decide)
  have nmix : NOT (isW tp wMix (pa, fr, tk, vl, fk, fp, fsh, hdt, lt)) := fun q => absurd (isW_inj h q) (by decide)
  have nhold : NOT (isW tp wHold (pa, fr, tk, vl, fk, fp, fsh, hdt, lt)) := fun q => absurd (isW_inj h q) (by decide)
  have nlean : NOT (isW tp wLean (pa, fr, tk, vl, fk, fp, fsh, hdt, lt)) := fun q => absurd (isW_inj h q) (by decide)
  show GO E iX6_readLine _ _ _ 0 [some (.ref am), none, none] [] _ _
  refine g_aload_n (q := 1) dX6_readLine_0 rfl rfl ?_
  refine g_ldcS (q := 3) dX6_readLine_1 rfl q1563 (litM_thing ok) rfl ?_
  refine g_cv (I' := iX6_is) (mc := 0) (ms := 0) (rc := 0) (rs := 0) (ci := 7) (q := 6) dX6_readLine_3 q1564 q1566 rfl qs47 gcX6_is mO (c_is (d := d + 3) (litM_thing ok).2 htp hP hz) rfl rfl ?_
  refine g_ifneB (t := 63) (q := 9) dX6_readLine_6 (by decide) rfl (fun c6 => ?_) (fun c6 => ?_)
  · exact absurd c6 nthing
  · try clear c6
    refine g_aload_n (q := 10) dX6_readLine_9 rfl rfl ?_
    refine g_ldcS (q := 12) dX6_readLine_10 rfl q1570 (litM_row ok) rfl ?_
    refine g_cv (I' := iX6_is) (mc := 0) (ms := 0) (rc := 0) (rs := 0) (ci := 7) (q := 15) dX6_readLine_12 q1564 q1566 rfl qs47 gcX6_is mO (c_is (d := d + 3) (litM_row ok).2 htp hP hz) rfl rfl ?_
    refine g_ifneB (t := 63) (q := 18) dX6_readLine_15 (by decide) rfl (fun c15 => ?_) (fun c15 => ?_)
    · try clear c15
      refine g_iconst (q := 64) dX6_readLine_63 rfl ?_
      refine g_goto (t := 68) dX6_readLine_64 (by decide) ?_
      refine g_istore_n (q := 69) dX6_readLine_68 gs1 rfl ?_
      refine g_iload_n (q := 70) dX6_readLine_69 rfl rfl ?_
      refine g_if_ne (t := 78) (q := 73) dX6_readLine_70 (by decide) rfl (by first | assumption | exact in32_gB | exact in32_gCmp | (unfold in32; omega)) (fun c70 => ?_) (fun c70 => absurd c70 (by decide))
      refine g_aload_n (q := 79) dX6_readLine_78 rfl rfl ?_
      refine g_ldcS (q := 81) dX6_readLine_79 rfl q1574 (litM_hold ok) rfl ?_
      refine g_cv (I' := iX6_is) (mc := 0) (ms := 0) (rc := 0) (rs := 0) (ci := 7) (q := 84) dX6_readLine_81 q1564 q1566 rfl qs47 gcX6_is mO (c_is (d := d + 3) (litM_hold ok).2 htp hP hz) rfl rfl ?_
      refine g_ifeqB (t := 99) (q := 87) dX6_readLine_84 (by decide) rfl (fun c84 => ?_) (fun c84 => ?_)
      · try clear c84
        refine g_aload_n (q := 100) dX6_readLine_99 rfl rfl ?_
        refine g_ldcS (q := 102) dX6_readLine_100 rfl q1563 (litM_thing ok) rfl ?_
        refine g_cv (I' := iX6_is) (mc := 0) (ms := 0) (rc := 0) (rs := 0) (ci := 7) (q := 105) dX6_readLine_102 q1564 q1566 rfl qs47 gcX6_is mO (c_is (d := d + 3) (litM_thing ok).2 htp hP hz) rfl rfl ?_
        refine g_ifeqB (t := 119) (q := 108) dX6_readLine_105 (by decide) rfl (fun c105 => ?_) (fun c105 => ?_)
        · try clear c105
          refine g_aload_n (q := 120) dX6_readLine_119 rfl rfl ?_
          refine g_ldcS (q := 122) dX6_readLine_120 rfl q1570 (litM_row ok) rfl ?_
          refine g_cv (I' := iX6_is) (mc := 0) (ms := 0) (rc := 0) (rs := 0) (ci := 7) (q := 125) dX6_readLine_122 q1564 q1566 rfl qs47 gcX6_is mO (c_is (d := d + 3) (litM_row ok).2 htp hP hz) rfl rfl ?_
          refine g_ifeqB (t := 144) (q := 128) dX6_readLine_125 (by decide) rfl (fun c125 => ?_) (fun c125 => ?_)
          · exact absurd h c125
          · refine g_aload_n (q := 129) dX6_readLine_128 rfl rfl ?_
            refine gm_get (k := 21) (q := 132) dX6_readLine_129 q1415 (by decide) rfl rfl ?_
            refine g_iconst (q := 133) dX6_readLine_132 rfl ?_
            refine g_iald (q := 134) dX6_readLine_133 mA21 (by omega) (by omega) rfl ?_
            refine g_bipush (q := 136) dX6_readLine_134 rfl ?_
            refine g_icmp_ne (t := 144) (q := 139) dX6_readLine_136 (by decide) rfl (by first | assumption | exact in32_gB | exact in32_gCmp | (unfold in32; omega)) (by first | assumption | exact in32_gB | exact in32_gCmp | (unfold in32; omega)) (fun c136 => ?_) (fun c136 => ?_)
            · exact absurd hx c136
            · refine g_aload_n (q := 140) dX6_readLine_139 rfl rfl ?_
              refine g_iconst (q := 141) dX6_readLine_140 rfl ?_
              refine g_cvV (I' := iX6_errs) (mc := 0) (ms := 0) (rc := 0) (rs := 0) (ci := 7) (q := 144) dX6_readLine_141 q1576 q1578 rfl qs48 gcX6_errs mO (c_errs hf) rfl rfl ?_
              try clear c125
              refine g_aload_n (q := 145) dX6_readLine_144 rfl rfl ?_
              refine g_cv (I' := iX6_good) (mc := 0) (ms := 0) (rc := 0) (rs := 0) (ci := 7) (q := 148) dX6_readLine_145 q1555 q1557 rfl qs45 gcX6_good mO (c_good (by unfold in32; omega)) rfl rfl ?_
              refine g_ifneB (t := 152) (q := 151) dX6_readLine_148 (by decide) rfl (fun c148 => ?_) (fun c148 => ?_)
              · exact absurd c148 (by decide)
              · exact g_vret dX6_readLine_151 rfl ⟨rfl, _, _, _, _, _, _, _, _, _, rfl, rfl⟩
        · exact absurd c105 nthing
      · exact absurd c84 nhold
    · exact absurd h c15
theorem c_line_row (htp : ∀ j, 0 ≤ j → j < 900 → -128 ≤ tp j ∧ tp j < 128) (hz : sz ≤ 900) (hO : PSok sz (pa, fr, tk, vl, fk, fp, fsh, hdt, lt)) (hf : fk = 0) (h : isW tp wRow (pa, fr, tk, vl, fk, fp, fsh, hdt, lt)) (hx : fsh 2 ≠ 12) : CALL E iX6_readLine (d + 8) 0 0 [.ref am] (mH E G am th w hs si lo bk iW iH iB iL iS tp td fv sz pa fr tk vl fk fp fsh hdt lt kl kn cp cd bp bl md sw nd mn my wd nm mv) ((qVP fun kP => ∃ pa_ fr_ tk_ vl_ fk_ fp_ fsh_ hdt_ lt_, (pa_, fr_, tk_, vl_, fk_, fp_, fsh_, hdt_, lt_) = enP tp sz (rrL tp sz 13 0 (PSadv tp sz (pa, fr, tk, vl, fk, fp, fsh, hdt, lt))) ∧ kP = (mH E G am th w hs si lo bk iW iH iB iL iS tp td fv sz pa_ fr_ tk_ vl_ fk_ fp_ fsh_ hdt_ lt_ kl kn cp cd bp bl md sw nd mn my wd nm mv))) := by
  have hP := hO.1
  have p1 : 0 ≤ fr ∧ fr ≤ pa ∧ pa ≤ sz := hP.1
  have w1 : 0 ≤ fsh 1 ∧ fsh 1 ≤ 24 := hO.2.1.1.1
  have w2 : 0 ≤ fsh 2 ∧ fsh 2 ≤ 12 := hO.2.1.1.2.1
  have wh : hdt = 0 ∨ hdt = 1 := hO.2.2.2.1
  have hA := hO.adv (tp := tp)
  refine GO.ok fun ok => ?_
  have nthing : NOT (isW tp wThing (pa, fr, tk, vl, fk, fp, fsh, hdt, lt)) := fun q => absurd (isW_inj h q) (by decide)
  have ngrow : NOT (isW tp wGrow (pa, fr, tk, vl, fk, fp, fsh, hdt, lt)) := fun q => absurd (isW_inj h q) (by decide)
  have nfall : NOT (isW tp wFall (pa, fr, tk, vl, fk, fp, fsh, hdt, lt)) := fun q => absurd (isW_inj h q) (by decide)
  have nmix : NOT (isW tp wMix (pa, fr, tk, vl, fk, fp, fsh, hdt, lt)) := fun q => absurd (isW_inj h q) (by decide)
  have nhold : NOT (isW tp wHold (pa, fr, tk, vl, fk, fp, fsh, hdt, lt)) := fun q => absurd (isW_inj h q) (by decide)
  have nlean : NOT (isW tp wLean (pa, fr, tk, vl, fk, fp, fsh, hdt, lt)) := fun q => absurd (isW_inj h q) (by decide)
  show GO E iX6_readLine _ _ _ 0 [some (.ref am), none, none] [] _ _
  refine g_aload_n (q := 1) dX6_readLine_0 rfl rfl ?_
  refine g_ldcS (q := 3) dX6_readLine_1 rfl q1563 (litM_thing ok) rfl ?_
  refine g_cv (I' := iX6_is) (mc := 0) (ms := 0) (rc := 0) (rs := 0) (ci := 7) (q := 6) dX6_readLine_3 q1564 q1566 rfl qs47 gcX6_is mO (c_is (d := d + 3) (litM_thing ok).2 htp hP hz) rfl rfl ?_
  refine g_ifneB (t := 63) (q := 9) dX6_readLine_6 (by decide) rfl (fun c6 => ?_) (fun c6 => ?_)
  · exact absurd c6 nthing
  · try clear c6
    refine g_aload_n (q := 10) dX6_readLine_9 rfl rfl ?_
    refine g_ldcS (q := 12) dX6_readLine_10 rfl q1570 (litM_row ok) rfl ?_
    refine g_cv (I' := iX6_is) (mc := 0) (ms := 0) (rc := 0) (rs := 0) (ci := 7) (q := 15) dX6_readLine_12 q1564 q1566 rfl qs47 gcX6_is mO (c_is (d := d + 3) (litM_row ok).2 htp hP hz) rfl rfl ?_
    refine g_ifneB (t := 63) (q := 18) dX6_readLine_15 (by decide) rfl (fun c15 => ?_) (fun c15 => ?_)
    · try clear c15
      refine g_iconst (q := 64) dX6_readLine_63 rfl ?_
      refine g_goto (t := 68) dX6_readLine_64 (by decide) ?_
      refine g_istore_n (q := 69) dX6_readLine_68 gs1 rfl ?_
      refine g_iload_n (q := 70) dX6_readLine_69 rfl rfl ?_
      refine g_if_ne (t := 78) (q := 73) dX6_readLine_70 (by decide) rfl (by first | assumption | exact in32_gB | exact in32_gCmp | (unfold in32; omega)) (fun c70 => ?_) (fun c70 => absurd c70 (by decide))
      refine g_aload_n (q := 79) dX6_readLine_78 rfl rfl ?_
      refine g_ldcS (q := 81) dX6_readLine_79 rfl q1574 (litM_hold ok) rfl ?_
      refine g_cv (I' := iX6_is) (mc := 0) (ms := 0) (rc := 0) (rs := 0) (ci := 7) (q := 84) dX6_readLine_81 q1564 q1566 rfl qs47 gcX6_is mO (c_is (d := d + 3) (litM_hold ok).2 htp hP hz) rfl rfl ?_
      refine g_ifeqB (t := 99) (q := 87) dX6_readLine_84 (by decide) rfl (fun c84 => ?_) (fun c84 => ?_)
      · try clear c84
        refine g_aload_n (q := 100) dX6_readLine_99 rfl rfl ?_
        refine g_ldcS (q := 102) dX6_readLine_100 rfl q1563 (litM_thing ok) rfl ?_
        refine g_cv (I' := iX6_is) (mc := 0) (ms := 0) (rc := 0) (rs := 0) (ci := 7) (q := 105) dX6_readLine_102 q1564 q1566 rfl qs47 gcX6_is mO (c_is (d := d + 3) (litM_thing ok).2 htp hP hz) rfl rfl ?_
        refine g_ifeqB (t := 119) (q := 108) dX6_readLine_105 (by decide) rfl (fun c105 => ?_) (fun c105 => ?_)
        · try clear c105
          refine g_aload_n (q := 120) dX6_readLine_119 rfl rfl ?_
          refine g_ldcS (q := 122) dX6_readLine_120 rfl q1570 (litM_row ok) rfl ?_
          refine g_cv (I' := iX6_is) (mc := 0) (ms := 0) (rc := 0) (rs := 0) (ci := 7) (q := 125) dX6_readLine_122 q1564 q1566 rfl qs47 gcX6_is mO (c_is (d := d + 3) (litM_row ok).2 htp hP hz) rfl rfl ?_
          refine g_ifeqB (t := 144) (q := 128) dX6_readLine_125 (by decide) rfl (fun c125 => ?_) (fun c125 => ?_)
          · exact absurd h c125
          · refine g_aload_n (q := 129) dX6_readLine_128 rfl rfl ?_
            refine gm_get (k := 21) (q := 132) dX6_readLine_129 q1415 (by decide) rfl rfl ?_
            refine g_iconst (q := 133) dX6_readLine_132 rfl ?_
            refine g_iald (q := 134) dX6_readLine_133 mA21 (by omega) (by omega) rfl ?_
            refine g_bipush (q := 136) dX6_readLine_134 rfl ?_
            refine g_icmp_ne (t := 144) (q := 139) dX6_readLine_136 (by decide) rfl (by first | assumption | exact in32_gB | exact in32_gCmp | (unfold in32; omega)) (by first | assumption | exact in32_gB | exact in32_gCmp | (unfold in32; omega)) (fun c136 => ?_) (fun c136 => ?_)
            · try clear c125
              refine g_aload_n (q := 145) dX6_readLine_144 rfl rfl ?_
              refine g_cv (I' := iX6_good) (mc := 0) (ms := 0) (rc := 0) (rs := 0) (ci := 7) (q := 148) dX6_readLine_145 q1555 q1557 rfl qs45 gcX6_good mO (c_good (by unfold in32; omega)) rfl rfl ?_
              refine g_ifneB (t := 152) (q := 151) dX6_readLine_148 (by decide) rfl (fun c148 => ?_) (fun c148 => ?_)
              · refine g_aload_n (q := 153) dX6_readLine_152 rfl rfl ?_
                refine g_ldcS (q := 155) dX6_readLine_153 rfl q1563 (litM_thing ok) rfl ?_
                refine g_cv (I' := iX6_takes) (mc := 0) (ms := 0) (rc := 0) (rs := 0) (ci := 7) (q := 158) dX6_readLine_155 q1580 q1582 rfl qs49 gcX6_takes mO (c_takes0 (d := d + 2) (litM_thing ok).2 htp hP hz nthing) rfl rfl ?_
                refine g_if_eq (t := 210) (q := 161) dX6_readLine_158 (by decide) rfl (by first | assumption | exact in32_gB | exact in32_gCmp | (unfold in32; omega)) (fun c158 => ?_) (fun c158 => ?_)
                · refine g_aload_n (q := 211) dX6_readLine_210 rfl rfl ?_
                  refine g_ldcS (q := 213) dX6_readLine_211 rfl q1570 (litM_row ok) rfl ?_
                  refine g_cvP (I' := iX6_takes) (mc := 0) (ms := 0) (rc := 0) (rs := 0) (ci := 7) (q := 216) dX6_readLine_213 q1580 q1582 rfl qs49 gcX6_takes mO (c_takes1 (d := d + 2) (litM_row ok).2 htp hP hz h) rfl rfl (fun v213 k213 z213 => ?_)
                  obtain ⟨n1, pa1, fr1, tk1, vl1, fk1, fp1, fsh1, hdt1, lt1, e1, rfl, rfl⟩ := z213
                  obtain ⟨rfl, eP⟩ := Prod.mk.inj e1
                  rw [← eP] at hA ⊢
                  obtain ⟨d1, e2⟩ := Prod.mk.inj eP; obtain ⟨d2, e2⟩ := Prod.mk.inj e2; obtain ⟨d3, e2⟩ := Prod.mk.inj e2; obtain ⟨d4, e2⟩ := Prod.mk.inj e2; obtain ⟨d5, e2⟩ := Prod.mk.inj e2; obtain ⟨d6, e2⟩ := Prod.mk.inj e2; obtain ⟨d7, e2⟩ := Prod.mk.inj e2; obtain ⟨d8, d9⟩ := Prod.mk.inj e2
                  replace d5 : fk1 = fk := d5
                  replace d7 : fsh1 = fsh := d7
                  replace d8 : hdt1 = hdt := d8
                  replace d9 : lt1 = lt := d9
                  refine g_if_eq (t := 226) (q := 219) dX6_readLine_216 (by decide) rfl (by first | assumption | exact in32_gB | exact in32_gCmp | (unfold in32; omega)) (fun c216 => ?_) (fun c216 => ?_)
                  · exact absurd c216 (by decide)
                  · refine g_aload_n (q := 220) dX6_readLine_219 rfl rfl ?_
                    refine g_cvVP (I' := iX6_readRow) (mc := 0) (ms := 0) (rc := 0) (rs := 0) (ci := 7) (q := 223) dX6_readLine_220 q1593 q1595 rfl qs52 gcX6_readRow mO (c_readRow (d := d + 5) hz hA.1 hA.2.1 (by omega) (by rw [d7]; omega)) rfl rfl (fun k220 z220 => ?_)
                    obtain ⟨pa2, fr2, tk2, vl2, fk2, fp2, fsh2, hdt2, lt2, e3, rfl⟩ := z220
                    have ro := (rrL_ok (tp := tp) 13 0 _ hA (show fk1 = 0 by omega) (by omega) (by omega) (by show fsh1 2 < 12; rw [d7]; omega) (fun i i1 i2 => absurd i2 (by omega))).1
                    rw [← e3] at ro ⊢
                    refine g_goto (t := 371) dX6_readLine_223 (by decide) ?_
                    exact l_end hz ro.1
                · exact absurd rfl c158
              · exact absurd hf c148
            · exact absurd c136 hx
        · exact absurd c105 nthing
      · exact absurd c84 nhold
    · exact absurd h c15
theorem c_line_hold0 (htp : ∀ j, 0 ≤ j → j < 900 → -128 ≤ tp j ∧ tp j < 128) (hz : sz ≤ 900) (hO : PSok sz (pa, fr, tk, vl, fk, fp, fsh, hdt, lt)) (hf : fk = 0) (h : isW tp wHold (pa, fr, tk, vl, fk, fp, fsh, hdt, lt)) (hx : hdt ≠ 0) : CALL E iX6_readLine (d + 8) 0 0 [.ref am] (mH E G am th w hs si lo bk iW iH iB iL iS tp td fv sz pa fr tk vl fk fp fsh hdt lt kl kn cp cd bp bl md sw nd mn my wd nm mv) ((qVP fun kP => ∃ pa_ fr_ tk_ vl_ fk_ fp_ fsh_ hdt_ lt_, (pa_, fr_, tk_, vl_, fk_, fp_, fsh_, hdt_, lt_) = PSerr 2 (pa, fr, tk, vl, fk, fp, fsh, hdt, lt) ∧ kP = (mH E G am th w hs si lo bk iW iH iB iL iS tp td fv sz pa_ fr_ tk_ vl_ fk_ fp_ fsh_ hdt_ lt_ kl kn cp cd bp bl md sw nd mn my wd nm mv))) := by
  have hP := hO.1
  have p1 : 0 ≤ fr ∧ fr ≤ pa ∧ pa ≤ sz := hP.1
  have w1 : 0 ≤ fsh 1 ∧ fsh 1 ≤ 24 := hO.2.1.1.1
  have w2 : 0 ≤ fsh 2 ∧ fsh 2 ≤ 12 := hO.2.1.1.2.1
  have wh : hdt = 0 ∨ hdt = 1 := hO.2.2.2.1
  have hA := hO.adv (tp := tp)
  refine GO.ok fun ok => ?_
  have nthing : NOT (isW tp wThing (pa, fr, tk, vl, fk, fp, fsh, hdt, lt)) := fun q => absurd (isW_inj h q) (by decide)
  have nrow : NOT (isW tp wRow (pa, fr, tk, vl, fk, fp, fsh, hdt, lt)) := fun q => absurd (isW_inj h q) (by decide)
  have ngrow : NOT (isW tp wGrow (pa, fr, tk, vl, fk, fp, fsh, hdt, lt)) := fun q => absurd (isW_inj h q) (by decide)
  have nfall : NOT (isW tp wFall (pa, fr, tk, vl, fk, fp, fsh, hdt, lt)) := fun q => absurd (isW_inj h q) (by decide)
  have nmix : NOT (isW tp wMix (pa, fr, tk, vl, fk, fp, fsh, hdt, lt)) := fun q => absurd (isW_inj h q) (by decide)
  have nlean : NOT (isW tp wLean (pa, fr, tk, vl, fk, fp, fsh, hdt, lt)) := fun q => absurd (isW_inj h q) (by decide)
  have nW : ∀ bs : List Int, NOT (isW tp bs (pa, fr, tk, vl, 2, fr, fsh, hdt, lt)) := fun bs q => absurd q.1 (by show ¬ (2 : Int) = 0; decide)
  show GO E iX6_readLine _ _ _ 0 [some (.ref am), none, none] [] _ _
  refine g_aload_n (q := 1) dX6_readLine_0 rfl rfl ?_
  refine g_ldcS (q := 3) dX6_readLine_1 rfl q1563 (litM_thing ok) rfl ?_
  refine g_cv (I' := iX6_is) (mc := 0) (ms := 0) (rc := 0) (rs := 0) (ci := 7) (q := 6) dX6_readLine_3 q1564 q1566 rfl qs47 gcX6_is mO (c_is (d := d + 3) (litM_thing ok).2 htp hP hz) rfl rfl ?_
  refine g_ifneB (t := 63) (q := 9) dX6_readLine_6 (by decide) rfl (fun c6 => ?_) (fun c6 => ?_)
  · exact absurd c6 nthing
  · try clear c6
    refine g_aload_n (q := 10) dX6_readLine_9 rfl rfl ?_
    refine g_ldcS (q := 12) dX6_readLine_10 rfl q1570 (litM_row ok) rfl ?_
    refine g_cv (I' := iX6_is) (mc := 0) (ms := 0) (rc := 0) (rs := 0) (ci := 7) (q := 15) dX6_readLine_12 q1564 q1566 rfl qs47 gcX6_is mO (c_is (d := d + 3) (litM_row ok).2 htp hP hz) rfl rfl ?_
    refine g_ifneB (t := 63) (q := 18) dX6_readLine_15 (by decide) rfl (fun c15 => ?_) (fun c15 => ?_)
    · exact absurd c15 nrow
    · try clear c15
      refine g_aload_n (q := 19) dX6_readLine_18 rfl rfl ?_
      refine g_ldcS (q := 21) dX6_readLine_19 rfl q1571 (litM_grow ok) rfl ?_
      refine g_cv (I' := iX6_is) (mc := 0) (ms := 0) (rc := 0) (rs := 0) (ci := 7) (q := 24) dX6_readLine_21 q1564 q1566 rfl qs47 gcX6_is mO (c_is (d := d + 3) (litM_grow ok).2 htp hP hz) rfl rfl ?_
      refine g_ifneB (t := 63) (q := 27) dX6_readLine_24 (by decide) rfl (fun c24 => ?_) (fun c24 => ?_)
      · exact absurd c24 ngrow
      · try clear c24
        refine g_aload_n (q := 28) dX6_readLine_27 rfl rfl ?_
        refine g_ldcS (q := 30) dX6_readLine_28 rfl q1572 (litM_fall ok) rfl ?_
        refine g_cv (I' := iX6_is) (mc := 0) (ms := 0) (rc := 0) (rs := 0) (ci := 7) (q := 33) dX6_readLine_30 q1564 q1566 rfl qs47 gcX6_is mO (c_is (d := d + 3) (litM_fall ok).2 htp hP hz) rfl rfl ?_
        refine g_ifneB (t := 63) (q := 36) dX6_readLine_33 (by decide) rfl (fun c33 => ?_) (fun c33 => ?_)
        · exact absurd c33 nfall
        · try clear c33
          refine g_aload_n (q := 37) dX6_readLine_36 rfl rfl ?_
          refine g_ldcS (q := 39) dX6_readLine_37 rfl q1573 (litM_mix ok) rfl ?_
          refine g_cv (I' := iX6_is) (mc := 0) (ms := 0) (rc := 0) (rs := 0) (ci := 7) (q := 42) dX6_readLine_39 q1564 q1566 rfl qs47 gcX6_is mO (c_is (d := d + 3) (litM_mix ok).2 htp hP hz) rfl rfl ?_
          refine g_ifneB (t := 63) (q := 45) dX6_readLine_42 (by decide) rfl (fun c42 => ?_) (fun c42 => ?_)
          · exact absurd c42 nmix
          · try clear c42
            refine g_aload_n (q := 46) dX6_readLine_45 rfl rfl ?_
            refine g_ldcS (q := 48) dX6_readLine_46 rfl q1574 (litM_hold ok) rfl ?_
            refine g_cv (I' := iX6_is) (mc := 0) (ms := 0) (rc := 0) (rs := 0) (ci := 7) (q := 51) dX6_readLine_48 q1564 q1566 rfl qs47 gcX6_is mO (c_is (d := d + 3) (litM_hold ok).2 htp hP hz) rfl rfl ?_
            refine g_ifneB (t := 63) (q := 54) dX6_readLine_51 (by decide) rfl (fun c51 => ?_) (fun c51 => ?_)
            · try clear c51
              refine g_iconst (q := 64) dX6_readLine_63 rfl ?_
              refine g_goto (t := 68) dX6_readLine_64 (by decide) ?_
              refine g_istore_n (q := 69) dX6_readLine_68 gs1 rfl ?_
              refine g_iload_n (q := 70) dX6_readLine_69 rfl rfl ?_
              refine g_if_ne (t := 78) (q := 73) dX6_readLine_70 (by decide) rfl (by first | assumption | exact in32_gB | exact in32_gCmp | (unfold in32; omega)) (fun c70 => ?_) (fun c70 => absurd c70 (by decide))
              refine g_aload_n (q := 79) dX6_readLine_78 rfl rfl ?_
              refine g_ldcS (q := 81) dX6_readLine_79 rfl q1574 (litM_hold ok) rfl ?_
              refine g_cv (I' := iX6_is) (mc := 0) (ms := 0) (rc := 0) (rs := 0) (ci := 7) (q := 84) dX6_readLine_81 q1564 q1566 rfl qs47 gcX6_is mO (c_is (d := d + 3) (litM_hold ok).2 htp hP hz) rfl rfl ?_
              refine g_ifeqB (t := 99) (q := 87) dX6_readLine_84 (by decide) rfl (fun c84 => ?_) (fun c84 => ?_)
              · exact absurd h c84
              · refine g_aload_n (q := 88) dX6_readLine_87 rfl rfl ?_
                refine gm_get (k := 22) (q := 91) dX6_readLine_88 q1416 (by decide) rfl rfl ?_
                refine g_if_eq (t := 99) (q := 94) dX6_readLine_91 (by decide) rfl (by unfold in32; omega) (fun c91 => ?_) (fun c91 => ?_)
                · exact absurd c91 hx
                · refine g_aload_n (q := 95) dX6_readLine_94 rfl rfl ?_
                  refine g_iconst (q := 96) dX6_readLine_95 rfl ?_
                  refine g_cvV (I' := iX6_errs) (mc := 0) (ms := 0) (rc := 0) (rs := 0) (ci := 7) (q := 99) dX6_readLine_96 q1576 q1578 rfl qs48 gcX6_errs mO (c_errs hf) rfl rfl ?_
                  try clear c84
                  refine g_aload_n (q := 100) dX6_readLine_99 rfl rfl ?_
                  refine g_ldcS (q := 102) dX6_readLine_100 rfl q1563 (litM_thing ok) rfl ?_
                  refine g_cv (I' := iX6_is) (mc := 0) (ms := 0) (rc := 0) (rs := 0) (ci := 7) (q := 105) dX6_readLine_102 q1564 q1566 rfl qs47 gcX6_is mO (c_is (d := d + 3) (litM_thing ok).2 htp (show PSt sz (pa, fr, tk, vl, 2, fr, fsh, hdt, lt) from hP.err (k := 2) (by decide)) hz) rfl rfl ?_
                  refine g_ifeqB (t := 119) (q := 108) dX6_readLine_105 (by decide) rfl (fun c105 => ?_) (fun c105 => ?_)
                  · try clear c105
                    refine g_aload_n (q := 120) dX6_readLine_119 rfl rfl ?_
                    refine g_ldcS (q := 122) dX6_readLine_120 rfl q1570 (litM_row ok) rfl ?_
                    refine g_cv (I' := iX6_is) (mc := 0) (ms := 0) (rc := 0) (rs := 0) (ci := 7) (q := 125) dX6_readLine_122 q1564 q1566 rfl qs47 gcX6_is mO (c_is (d := d + 3) (litM_row ok).2 htp (show PSt sz (pa, fr, tk, vl, 2, fr, fsh, hdt, lt) from hP.err (k := 2) (by decide)) hz) rfl rfl ?_
                    refine g_ifeqB (t := 144) (q := 128) dX6_readLine_125 (by decide) rfl (fun c125 => ?_) (fun c125 => ?_)
                    · try clear c125
                      refine g_aload_n (q := 145) dX6_readLine_144 rfl rfl ?_
                      refine g_cv (I' := iX6_good) (mc := 0) (ms := 0) (rc := 0) (rs := 0) (ci := 7) (q := 148) dX6_readLine_145 q1555 q1557 rfl qs45 gcX6_good mO (c_good (by unfold in32; omega)) rfl rfl ?_
                      refine g_ifneB (t := 152) (q := 151) dX6_readLine_148 (by decide) rfl (fun c148 => ?_) (fun c148 => ?_)
                      · exact absurd c148 (by decide)
                      · exact g_vret dX6_readLine_151 rfl ⟨rfl, _, _, _, _, _, _, _, _, _, rfl, rfl⟩
                    · exact absurd c125 (nW _)
                  · exact absurd c105 (nW _)
            · exact absurd h c51
theorem c_line_hold (htp : ∀ j, 0 ≤ j → j < 900 → -128 ≤ tp j ∧ tp j < 128) (hz : sz ≤ 900) (hO : PSok sz (pa, fr, tk, vl, fk, fp, fsh, hdt, lt)) (hf : fk = 0) (h : isW tp wHold (pa, fr, tk, vl, fk, fp, fsh, hdt, lt)) (hx : hdt = 0) : CALL E iX6_readLine (d + 8) 0 0 [.ref am] (mH E G am th w hs si lo bk iW iH iB iL iS tp td fv sz pa fr tk vl fk fp fsh hdt lt kl kn cp cd bp bl md sw nd mn my wd nm mv) ((qVP fun kP => ∃ pa_ fr_ tk_ vl_ fk_ fp_ fsh_ hdt_ lt_, (pa_, fr_, tk_, vl_, fk_, fp_, fsh_, hdt_, lt_) = enP tp sz (hoP tp sz (pa, fr, tk, vl, fk, fp, fsh, hdt, lt)) ∧ kP = (mH E G am th w hs si lo bk iW iH iB iL iS tp td fv sz pa_ fr_ tk_ vl_ fk_ fp_ fsh_ hdt_ lt_ kl kn cp cd bp bl md sw nd mn my wd nm mv))) := by
  have hP := hO.1
  have p1 : 0 ≤ fr ∧ fr ≤ pa ∧ pa ≤ sz := hP.1
  have w1 : 0 ≤ fsh 1 ∧ fsh 1 ≤ 24 := hO.2.1.1.1
  have w2 : 0 ≤ fsh 2 ∧ fsh 2 ≤ 12 := hO.2.1.1.2.1
  have wh : hdt = 0 ∨ hdt = 1 := hO.2.2.2.1
  have hA := hO.adv (tp := tp)
  refine GO.ok fun ok => ?_
  have nthing : NOT (isW tp wThing (pa, fr, tk, vl, fk, fp, fsh, hdt, lt)) := fun q => absurd (isW_inj h q) (by decide)
  have nrow : NOT (isW tp wRow (pa, fr, tk, vl, fk, fp, fsh, hdt, lt)) := fun q => absurd (isW_inj h q) (by decide)
  have ngrow : NOT (isW tp wGrow (pa, fr, tk, vl, fk, fp, fsh, hdt, lt)) := fun q => absurd (isW_inj h q) (by decide)
  have nfall : NOT (isW tp wFall (pa, fr, tk, vl, fk, fp, fsh, hdt, lt)) := fun q => absurd (isW_inj h q) (by decide)
  have nmix : NOT (isW tp wMix (pa, fr, tk, vl, fk, fp, fsh, hdt, lt)) := fun q => absurd (isW_inj h q) (by decide)
  have nlean : NOT (isW tp wLean (pa, fr, tk, vl, fk, fp, fsh, hdt, lt)) := fun q => absurd (isW_inj h q) (by decide)
  unfold hoP
  show GO E iX6_readLine _ _ _ 0 [some (.ref am), none, none] [] _ _
  refine g_aload_n (q := 1) dX6_readLine_0 rfl rfl ?_
  refine g_ldcS (q := 3) dX6_readLine_1 rfl q1563 (litM_thing ok) rfl ?_
  refine g_cv (I' := iX6_is) (mc := 0) (ms := 0) (rc := 0) (rs := 0) (ci := 7) (q := 6) dX6_readLine_3 q1564 q1566 rfl qs47 gcX6_is mO (c_is (d := d + 3) (litM_thing ok).2 htp hP hz) rfl rfl ?_
  refine g_ifneB (t := 63) (q := 9) dX6_readLine_6 (by decide) rfl (fun c6 => ?_) (fun c6 => ?_)
  · exact absurd c6 nthing
  · try clear c6
    refine g_aload_n (q := 10) dX6_readLine_9 rfl rfl ?_
    refine g_ldcS (q := 12) dX6_readLine_10 rfl q1570 (litM_row ok) rfl ?_
    refine g_cv (I' := iX6_is) (mc := 0) (ms := 0) (rc := 0) (rs := 0) (ci := 7) (q := 15) dX6_readLine_12 q1564 q1566 rfl qs47 gcX6_is mO (c_is (d := d + 3) (litM_row ok).2 htp hP hz) rfl rfl ?_
    refine g_ifneB (t := 63) (q := 18) dX6_readLine_15 (by decide) rfl (fun c15 => ?_) (fun c15 => ?_)
    · exact absurd c15 nrow
    · try clear c15
      refine g_aload_n (q := 19) dX6_readLine_18 rfl rfl ?_
      refine g_ldcS (q := 21) dX6_readLine_19 rfl q1571 (litM_grow ok) rfl ?_
      refine g_cv (I' := iX6_is) (mc := 0) (ms := 0) (rc := 0) (rs := 0) (ci := 7) (q := 24) dX6_readLine_21 q1564 q1566 rfl qs47 gcX6_is mO (c_is (d := d + 3) (litM_grow ok).2 htp hP hz) rfl rfl ?_
      refine g_ifneB (t := 63) (q := 27) dX6_readLine_24 (by decide) rfl (fun c24 => ?_) (fun c24 => ?_)
      · exact absurd c24 ngrow
      · try clear c24
        refine g_aload_n (q := 28) dX6_readLine_27 rfl rfl ?_
        refine g_ldcS (q := 30) dX6_readLine_28 rfl q1572 (litM_fall ok) rfl ?_
        refine g_cv (I' := iX6_is) (mc := 0) (ms := 0) (rc := 0) (rs := 0) (ci := 7) (q := 33) dX6_readLine_30 q1564 q1566 rfl qs47 gcX6_is mO (c_is (d := d + 3) (litM_fall ok).2 htp hP hz) rfl rfl ?_
        refine g_ifneB (t := 63) (q := 36) dX6_readLine_33 (by decide) rfl (fun c33 => ?_) (fun c33 => ?_)
        · exact absurd c33 nfall
        · try clear c33
          refine g_aload_n (q := 37) dX6_readLine_36 rfl rfl ?_
          refine g_ldcS (q := 39) dX6_readLine_37 rfl q1573 (litM_mix ok) rfl ?_
          refine g_cv (I' := iX6_is) (mc := 0) (ms := 0) (rc := 0) (rs := 0) (ci := 7) (q := 42) dX6_readLine_39 q1564 q1566 rfl qs47 gcX6_is mO (c_is (d := d + 3) (litM_mix ok).2 htp hP hz) rfl rfl ?_
          refine g_ifneB (t := 63) (q := 45) dX6_readLine_42 (by decide) rfl (fun c42 => ?_) (fun c42 => ?_)
          · exact absurd c42 nmix
          · try clear c42
            refine g_aload_n (q := 46) dX6_readLine_45 rfl rfl ?_
            refine g_ldcS (q := 48) dX6_readLine_46 rfl q1574 (litM_hold ok) rfl ?_
            refine g_cv (I' := iX6_is) (mc := 0) (ms := 0) (rc := 0) (rs := 0) (ci := 7) (q := 51) dX6_readLine_48 q1564 q1566 rfl qs47 gcX6_is mO (c_is (d := d + 3) (litM_hold ok).2 htp hP hz) rfl rfl ?_
            refine g_ifneB (t := 63) (q := 54) dX6_readLine_51 (by decide) rfl (fun c51 => ?_) (fun c51 => ?_)
            · try clear c51
              refine g_iconst (q := 64) dX6_readLine_63 rfl ?_
              refine g_goto (t := 68) dX6_readLine_64 (by decide) ?_
              refine g_istore_n (q := 69) dX6_readLine_68 gs1 rfl ?_
              refine g_iload_n (q := 70) dX6_readLine_69 rfl rfl ?_
              refine g_if_ne (t := 78) (q := 73) dX6_readLine_70 (by decide) rfl (by first | assumption | exact in32_gB | exact in32_gCmp | (unfold in32; omega)) (fun c70 => ?_) (fun c70 => absurd c70 (by decide))
              refine g_aload_n (q := 79) dX6_readLine_78 rfl rfl ?_
              refine g_ldcS (q := 81) dX6_readLine_79 rfl q1574 (litM_hold ok) rfl ?_
              refine g_cv (I' := iX6_is) (mc := 0) (ms := 0) (rc := 0) (rs := 0) (ci := 7) (q := 84) dX6_readLine_81 q1564 q1566 rfl qs47 gcX6_is mO (c_is (d := d + 3) (litM_hold ok).2 htp hP hz) rfl rfl ?_
              refine g_ifeqB (t := 99) (q := 87) dX6_readLine_84 (by decide) rfl (fun c84 => ?_) (fun c84 => ?_)
              · exact absurd h c84
              · refine g_aload_n (q := 88) dX6_readLine_87 rfl rfl ?_
                refine gm_get (k := 22) (q := 91) dX6_readLine_88 q1416 (by decide) rfl rfl ?_
                refine g_if_eq (t := 99) (q := 94) dX6_readLine_91 (by decide) rfl (by unfold in32; omega) (fun c91 => ?_) (fun c91 => ?_)
                · try clear c84
                  refine g_aload_n (q := 100) dX6_readLine_99 rfl rfl ?_
                  refine g_ldcS (q := 102) dX6_readLine_100 rfl q1563 (litM_thing ok) rfl ?_
                  refine g_cv (I' := iX6_is) (mc := 0) (ms := 0) (rc := 0) (rs := 0) (ci := 7) (q := 105) dX6_readLine_102 q1564 q1566 rfl qs47 gcX6_is mO (c_is (d := d + 3) (litM_thing ok).2 htp hP hz) rfl rfl ?_
                  refine g_ifeqB (t := 119) (q := 108) dX6_readLine_105 (by decide) rfl (fun c105 => ?_) (fun c105 => ?_)
                  · try clear c105
                    refine g_aload_n (q := 120) dX6_readLine_119 rfl rfl ?_
                    refine g_ldcS (q := 122) dX6_readLine_120 rfl q1570 (litM_row ok) rfl ?_
                    refine g_cv (I' := iX6_is) (mc := 0) (ms := 0) (rc := 0) (rs := 0) (ci := 7) (q := 125) dX6_readLine_122 q1564 q1566 rfl qs47 gcX6_is mO (c_is (d := d + 3) (litM_row ok).2 htp hP hz) rfl rfl ?_
                    refine g_ifeqB (t := 144) (q := 128) dX6_readLine_125 (by decide) rfl (fun c125 => ?_) (fun c125 => ?_)
                    · try clear c125
                      refine g_aload_n (q := 145) dX6_readLine_144 rfl rfl ?_
                      refine g_cv (I' := iX6_good) (mc := 0) (ms := 0) (rc := 0) (rs := 0) (ci := 7) (q := 148) dX6_readLine_145 q1555 q1557 rfl qs45 gcX6_good mO (c_good (by unfold in32; omega)) rfl rfl ?_
                      refine g_ifneB (t := 152) (q := 151) dX6_readLine_148 (by decide) rfl (fun c148 => ?_) (fun c148 => ?_)
                      · refine g_aload_n (q := 153) dX6_readLine_152 rfl rfl ?_
                        refine g_ldcS (q := 155) dX6_readLine_153 rfl q1563 (litM_thing ok) rfl ?_
                        refine g_cv (I' := iX6_takes) (mc := 0) (ms := 0) (rc := 0) (rs := 0) (ci := 7) (q := 158) dX6_readLine_155 q1580 q1582 rfl qs49 gcX6_takes mO (c_takes0 (d := d + 2) (litM_thing ok).2 htp hP hz nthing) rfl rfl ?_
                        refine g_if_eq (t := 210) (q := 161) dX6_readLine_158 (by decide) rfl (by first | assumption | exact in32_gB | exact in32_gCmp | (unfold in32; omega)) (fun c158 => ?_) (fun c158 => ?_)
                        · refine g_aload_n (q := 211) dX6_readLine_210 rfl rfl ?_
                          refine g_ldcS (q := 213) dX6_readLine_211 rfl q1570 (litM_row ok) rfl ?_
                          refine g_cv (I' := iX6_takes) (mc := 0) (ms := 0) (rc := 0) (rs := 0) (ci := 7) (q := 216) dX6_readLine_213 q1580 q1582 rfl qs49 gcX6_takes mO (c_takes0 (d := d + 2) (litM_row ok).2 htp hP hz nrow) rfl rfl ?_
                          refine g_if_eq (t := 226) (q := 219) dX6_readLine_216 (by decide) rfl (by first | assumption | exact in32_gB | exact in32_gCmp | (unfold in32; omega)) (fun c216 => ?_) (fun c216 => ?_)
                          · refine g_aload_n (q := 227) dX6_readLine_226 rfl rfl ?_
                            refine g_ldcS (q := 229) dX6_readLine_227 rfl q1574 (litM_hold ok) rfl ?_
                            refine g_cvP (I' := iX6_takes) (mc := 0) (ms := 0) (rc := 0) (rs := 0) (ci := 7) (q := 232) dX6_readLine_229 q1580 q1582 rfl qs49 gcX6_takes mO (c_takes1 (d := d + 2) (litM_hold ok).2 htp hP hz h) rfl rfl (fun v229 k229 z229 => ?_)
                            obtain ⟨n1, pa1, fr1, tk1, vl1, fk1, fp1, fsh1, hdt1, lt1, e1, rfl, rfl⟩ := z229
                            obtain ⟨rfl, eP⟩ := Prod.mk.inj e1
                            rw [← eP] at hA ⊢
                            obtain ⟨d1, e2⟩ := Prod.mk.inj eP; obtain ⟨d2, e2⟩ := Prod.mk.inj e2; obtain ⟨d3, e2⟩ := Prod.mk.inj e2; obtain ⟨d4, e2⟩ := Prod.mk.inj e2; obtain ⟨d5, e2⟩ := Prod.mk.inj e2; obtain ⟨d6, e2⟩ := Prod.mk.inj e2; obtain ⟨d7, e2⟩ := Prod.mk.inj e2; obtain ⟨d8, d9⟩ := Prod.mk.inj e2
                            replace d5 : fk1 = fk := d5
                            replace d7 : fsh1 = fsh := d7
                            replace d8 : hdt1 = hdt := d8
                            replace d9 : lt1 = lt := d9
                            refine g_if_eq (t := 257) (q := 235) dX6_readLine_232 (by decide) rfl (by first | assumption | exact in32_gB | exact in32_gCmp | (unfold in32; omega)) (fun c232 => ?_) (fun c232 => ?_)
                            · exact absurd c232 (by decide)
                            · refine g_aload_n (q := 236) dX6_readLine_235 rfl rfl ?_
                              refine g_iconst (q := 237) dX6_readLine_236 rfl ?_
                              refine gm_put22 (q := 240) dX6_readLine_237 q1416 gFit_1 rfl ?_
                              refine g_aload_n (q := 241) dX6_readLine_240 rfl rfl ?_
                              refine gm_get (k := 21) (q := 244) dX6_readLine_241 q1415 (by decide) rfl rfl ?_
                              refine g_iconst (q := 245) dX6_readLine_244 rfl ?_
                              refine g_aload_n (q := 246) dX6_readLine_245 rfl rfl ?_
                              refine g_iconst (q := 247) dX6_readLine_246 rfl ?_
                              have hH : PSok sz (PSh 1 (pa1, fr1, tk1, vl1, fk1, fp1, fsh1, hdt1, lt1)) := ⟨hA.1, hA.2.1, hA.2.2.1, Or.inr rfl, hA.2.2.2.2⟩
                              refine g_sipush (q := 250) dX6_readLine_247 rfl ?_
                              refine g_cvP (I' := iX6_number) (mc := 0) (ms := 0) (rc := 0) (rs := 0) (ci := 7) (q := 253) dX6_readLine_250 q1589 q1591 rfl qs51 gcX6_number mO (c_number (d := d + 5) (show PSt sz (pa1, fr1, tk1, vl1, fk1, fp1, fsh1, 1, lt1) from hH.1) hz (by omega) (by omega)) rfl rfl (fun v250 k250 z250 => ?_)
                              obtain ⟨n3, pa3, fr3, tk3, vl3, fk3, fp3, fsh3, hdt3, lt3, e4, rfl, rfl⟩ := z250
                              have nuo := hH.nu (tp := tp) (lo := 0) (hi := 5000) (by omega)
                              replace e4 : (n3, pa3, fr3, tk3, vl3, fk3, fp3, fsh3, hdt3, lt3) = nuP tp sz 0 5000 (PSh 1 (pa1, fr1, tk1, vl1, fk1, fp1, fsh1, hdt1, lt1)) := e4
                              rw [← e4] at nuo ⊢
                              refine gm_st21 (q := 254) dX6_readLine_253 (by omega) (by omega)  rfl ?_
                              refine g_goto (t := 371) dX6_readLine_254 (by decide) ?_
                              exact l_end hz nuo.1
                          · exact absurd rfl c216
                        · exact absurd rfl c158
                      · exact absurd hf c148
                    · exact absurd c125 nrow
                  · exact absurd c105 nthing
                · exact absurd hx c91
            · exact absurd h c51
theorem c_line_lean (htp : ∀ j, 0 ≤ j → j < 900 → -128 ≤ tp j ∧ tp j < 128) (hz : sz ≤ 900) (hO : PSok sz (pa, fr, tk, vl, fk, fp, fsh, hdt, lt)) (hf : fk = 0) (h : isW tp wLean (pa, fr, tk, vl, fk, fp, fsh, hdt, lt)) : CALL E iX6_readLine (d + 8) 0 0 [.ref am] (mH E G am th w hs si lo bk iW iH iB iL iS tp td fv sz pa fr tk vl fk fp fsh hdt lt kl kn cp cd bp bl md sw nd mn my wd nm mv) ((qVP fun kP => ∃ pa_ fr_ tk_ vl_ fk_ fp_ fsh_ hdt_ lt_, (pa_, fr_, tk_, vl_, fk_, fp_, fsh_, hdt_, lt_) = enP tp sz (leP tp sz (pa, fr, tk, vl, fk, fp, fsh, hdt, lt)) ∧ kP = (mH E G am th w hs si lo bk iW iH iB iL iS tp td fv sz pa_ fr_ tk_ vl_ fk_ fp_ fsh_ hdt_ lt_ kl kn cp cd bp bl md sw nd mn my wd nm mv))) := by
  have hP := hO.1
  have p1 : 0 ≤ fr ∧ fr ≤ pa ∧ pa ≤ sz := hP.1
  have w1 : 0 ≤ fsh 1 ∧ fsh 1 ≤ 24 := hO.2.1.1.1
  have w2 : 0 ≤ fsh 2 ∧ fsh 2 ≤ 12 := hO.2.1.1.2.1
  have wh : hdt = 0 ∨ hdt = 1 := hO.2.2.2.1
  have hA := hO.adv (tp := tp)
  refine GO.ok fun ok => ?_
  have nthing : NOT (isW tp wThing (pa, fr, tk, vl, fk, fp, fsh, hdt, lt)) := fun q => absurd (isW_inj h q) (by decide)
  have nrow : NOT (isW tp wRow (pa, fr, tk, vl, fk, fp, fsh, hdt, lt)) := fun q => absurd (isW_inj h q) (by decide)
  have ngrow : NOT (isW tp wGrow (pa, fr, tk, vl, fk, fp, fsh, hdt, lt)) := fun q => absurd (isW_inj h q) (by decide)
  have nfall : NOT (isW tp wFall (pa, fr, tk, vl, fk, fp, fsh, hdt, lt)) := fun q => absurd (isW_inj h q) (by decide)
  have nmix : NOT (isW tp wMix (pa, fr, tk, vl, fk, fp, fsh, hdt, lt)) := fun q => absurd (isW_inj h q) (by decide)
  have nhold : NOT (isW tp wHold (pa, fr, tk, vl, fk, fp, fsh, hdt, lt)) := fun q => absurd (isW_inj h q) (by decide)
  unfold leP
  show GO E iX6_readLine _ _ _ 0 [some (.ref am), none, none] [] _ _
  refine g_aload_n (q := 1) dX6_readLine_0 rfl rfl ?_
  refine g_ldcS (q := 3) dX6_readLine_1 rfl q1563 (litM_thing ok) rfl ?_
  refine g_cv (I' := iX6_is) (mc := 0) (ms := 0) (rc := 0) (rs := 0) (ci := 7) (q := 6) dX6_readLine_3 q1564 q1566 rfl qs47 gcX6_is mO (c_is (d := d + 3) (litM_thing ok).2 htp hP hz) rfl rfl ?_
  refine g_ifneB (t := 63) (q := 9) dX6_readLine_6 (by decide) rfl (fun c6 => ?_) (fun c6 => ?_)
  · exact absurd c6 nthing
  · try clear c6
    refine g_aload_n (q := 10) dX6_readLine_9 rfl rfl ?_
    refine g_ldcS (q := 12) dX6_readLine_10 rfl q1570 (litM_row ok) rfl ?_
    refine g_cv (I' := iX6_is) (mc := 0) (ms := 0) (rc := 0) (rs := 0) (ci := 7) (q := 15) dX6_readLine_12 q1564 q1566 rfl qs47 gcX6_is mO (c_is (d := d + 3) (litM_row ok).2 htp hP hz) rfl rfl ?_
    refine g_ifneB (t := 63) (q := 18) dX6_readLine_15 (by decide) rfl (fun c15 => ?_) (fun c15 => ?_)
    · exact absurd c15 nrow
    · try clear c15
      refine g_aload_n (q := 19) dX6_readLine_18 rfl rfl ?_
      refine g_ldcS (q := 21) dX6_readLine_19 rfl q1571 (litM_grow ok) rfl ?_
      refine g_cv (I' := iX6_is) (mc := 0) (ms := 0) (rc := 0) (rs := 0) (ci := 7) (q := 24) dX6_readLine_21 q1564 q1566 rfl qs47 gcX6_is mO (c_is (d := d + 3) (litM_grow ok).2 htp hP hz) rfl rfl ?_
      refine g_ifneB (t := 63) (q := 27) dX6_readLine_24 (by decide) rfl (fun c24 => ?_) (fun c24 => ?_)
      · exact absurd c24 ngrow
      · try clear c24
        refine g_aload_n (q := 28) dX6_readLine_27 rfl rfl ?_
        refine g_ldcS (q := 30) dX6_readLine_28 rfl q1572 (litM_fall ok) rfl ?_
        refine g_cv (I' := iX6_is) (mc := 0) (ms := 0) (rc := 0) (rs := 0) (ci := 7) (q := 33) dX6_readLine_30 q1564 q1566 rfl qs47 gcX6_is mO (c_is (d := d + 3) (litM_fall ok).2 htp hP hz) rfl rfl ?_
        refine g_ifneB (t := 63) (q := 36) dX6_readLine_33 (by decide) rfl (fun c33 => ?_) (fun c33 => ?_)
        · exact absurd c33 nfall
        · try clear c33
          refine g_aload_n (q := 37) dX6_readLine_36 rfl rfl ?_
          refine g_ldcS (q := 39) dX6_readLine_37 rfl q1573 (litM_mix ok) rfl ?_
          refine g_cv (I' := iX6_is) (mc := 0) (ms := 0) (rc := 0) (rs := 0) (ci := 7) (q := 42) dX6_readLine_39 q1564 q1566 rfl qs47 gcX6_is mO (c_is (d := d + 3) (litM_mix ok).2 htp hP hz) rfl rfl ?_
          refine g_ifneB (t := 63) (q := 45) dX6_readLine_42 (by decide) rfl (fun c42 => ?_) (fun c42 => ?_)
          · exact absurd c42 nmix
          · try clear c42
            refine g_aload_n (q := 46) dX6_readLine_45 rfl rfl ?_
            refine g_ldcS (q := 48) dX6_readLine_46 rfl q1574 (litM_hold ok) rfl ?_
            refine g_cv (I' := iX6_is) (mc := 0) (ms := 0) (rc := 0) (rs := 0) (ci := 7) (q := 51) dX6_readLine_48 q1564 q1566 rfl qs47 gcX6_is mO (c_is (d := d + 3) (litM_hold ok).2 htp hP hz) rfl rfl ?_
            refine g_ifneB (t := 63) (q := 54) dX6_readLine_51 (by decide) rfl (fun c51 => ?_) (fun c51 => ?_)
            · exact absurd c51 nhold
            · try clear c51
              refine g_aload_n (q := 55) dX6_readLine_54 rfl rfl ?_
              refine g_ldcS (q := 57) dX6_readLine_55 rfl q1575 (litM_lean ok) rfl ?_
              refine g_cv (I' := iX6_is) (mc := 0) (ms := 0) (rc := 0) (rs := 0) (ci := 7) (q := 60) dX6_readLine_57 q1564 q1566 rfl qs47 gcX6_is mO (c_is (d := d + 3) (litM_lean ok).2 htp hP hz) rfl rfl ?_
              refine g_ifeqB (t := 67) (q := 63) dX6_readLine_60 (by decide) rfl (fun c60 => ?_) (fun c60 => ?_)
              · exact absurd h c60
              · try clear c60
                refine g_iconst (q := 64) dX6_readLine_63 rfl ?_
                refine g_goto (t := 68) dX6_readLine_64 (by decide) ?_
                refine g_istore_n (q := 69) dX6_readLine_68 gs1 rfl ?_
                refine g_iload_n (q := 70) dX6_readLine_69 rfl rfl ?_
                refine g_if_ne (t := 78) (q := 73) dX6_readLine_70 (by decide) rfl (by first | assumption | exact in32_gB | exact in32_gCmp | (unfold in32; omega)) (fun c70 => ?_) (fun c70 => absurd c70 (by decide))
                refine g_aload_n (q := 79) dX6_readLine_78 rfl rfl ?_
                refine g_ldcS (q := 81) dX6_readLine_79 rfl q1574 (litM_hold ok) rfl ?_
                refine g_cv (I' := iX6_is) (mc := 0) (ms := 0) (rc := 0) (rs := 0) (ci := 7) (q := 84) dX6_readLine_81 q1564 q1566 rfl qs47 gcX6_is mO (c_is (d := d + 3) (litM_hold ok).2 htp hP hz) rfl rfl ?_
                refine g_ifeqB (t := 99) (q := 87) dX6_readLine_84 (by decide) rfl (fun c84 => ?_) (fun c84 => ?_)
                · try clear c84
                  refine g_aload_n (q := 100) dX6_readLine_99 rfl rfl ?_
                  refine g_ldcS (q := 102) dX6_readLine_100 rfl q1563 (litM_thing ok) rfl ?_
                  refine g_cv (I' := iX6_is) (mc := 0) (ms := 0) (rc := 0) (rs := 0) (ci := 7) (q := 105) dX6_readLine_102 q1564 q1566 rfl qs47 gcX6_is mO (c_is (d := d + 3) (litM_thing ok).2 htp hP hz) rfl rfl ?_
                  refine g_ifeqB (t := 119) (q := 108) dX6_readLine_105 (by decide) rfl (fun c105 => ?_) (fun c105 => ?_)
                  · try clear c105
                    refine g_aload_n (q := 120) dX6_readLine_119 rfl rfl ?_
                    refine g_ldcS (q := 122) dX6_readLine_120 rfl q1570 (litM_row ok) rfl ?_
                    refine g_cv (I' := iX6_is) (mc := 0) (ms := 0) (rc := 0) (rs := 0) (ci := 7) (q := 125) dX6_readLine_122 q1564 q1566 rfl qs47 gcX6_is mO (c_is (d := d + 3) (litM_row ok).2 htp hP hz) rfl rfl ?_
                    refine g_ifeqB (t := 144) (q := 128) dX6_readLine_125 (by decide) rfl (fun c125 => ?_) (fun c125 => ?_)
                    · try clear c125
                      refine g_aload_n (q := 145) dX6_readLine_144 rfl rfl ?_
                      refine g_cv (I' := iX6_good) (mc := 0) (ms := 0) (rc := 0) (rs := 0) (ci := 7) (q := 148) dX6_readLine_145 q1555 q1557 rfl qs45 gcX6_good mO (c_good (by unfold in32; omega)) rfl rfl ?_
                      refine g_ifneB (t := 152) (q := 151) dX6_readLine_148 (by decide) rfl (fun c148 => ?_) (fun c148 => ?_)
                      · refine g_aload_n (q := 153) dX6_readLine_152 rfl rfl ?_
                        refine g_ldcS (q := 155) dX6_readLine_153 rfl q1563 (litM_thing ok) rfl ?_
                        refine g_cv (I' := iX6_takes) (mc := 0) (ms := 0) (rc := 0) (rs := 0) (ci := 7) (q := 158) dX6_readLine_155 q1580 q1582 rfl qs49 gcX6_takes mO (c_takes0 (d := d + 2) (litM_thing ok).2 htp hP hz nthing) rfl rfl ?_
                        refine g_if_eq (t := 210) (q := 161) dX6_readLine_158 (by decide) rfl (by first | assumption | exact in32_gB | exact in32_gCmp | (unfold in32; omega)) (fun c158 => ?_) (fun c158 => ?_)
                        · refine g_aload_n (q := 211) dX6_readLine_210 rfl rfl ?_
                          refine g_ldcS (q := 213) dX6_readLine_211 rfl q1570 (litM_row ok) rfl ?_
                          refine g_cv (I' := iX6_takes) (mc := 0) (ms := 0) (rc := 0) (rs := 0) (ci := 7) (q := 216) dX6_readLine_213 q1580 q1582 rfl qs49 gcX6_takes mO (c_takes0 (d := d + 2) (litM_row ok).2 htp hP hz nrow) rfl rfl ?_
                          refine g_if_eq (t := 226) (q := 219) dX6_readLine_216 (by decide) rfl (by first | assumption | exact in32_gB | exact in32_gCmp | (unfold in32; omega)) (fun c216 => ?_) (fun c216 => ?_)
                          · refine g_aload_n (q := 227) dX6_readLine_226 rfl rfl ?_
                            refine g_ldcS (q := 229) dX6_readLine_227 rfl q1574 (litM_hold ok) rfl ?_
                            refine g_cv (I' := iX6_takes) (mc := 0) (ms := 0) (rc := 0) (rs := 0) (ci := 7) (q := 232) dX6_readLine_229 q1580 q1582 rfl qs49 gcX6_takes mO (c_takes0 (d := d + 2) (litM_hold ok).2 htp hP hz nhold) rfl rfl ?_
                            refine g_if_eq (t := 257) (q := 235) dX6_readLine_232 (by decide) rfl (by first | assumption | exact in32_gB | exact in32_gCmp | (unfold in32; omega)) (fun c232 => ?_) (fun c232 => ?_)
                            · refine g_aload_n (q := 258) dX6_readLine_257 rfl rfl ?_
                              refine g_ldcS (q := 260) dX6_readLine_258 rfl q1575 (litM_lean ok) rfl ?_
                              refine g_cvP (I' := iX6_takes) (mc := 0) (ms := 0) (rc := 0) (rs := 0) (ci := 7) (q := 263) dX6_readLine_260 q1580 q1582 rfl qs49 gcX6_takes mO (c_takes1 (d := d + 2) (litM_lean ok).2 htp hP hz h) rfl rfl (fun v260 k260 z260 => ?_)
                              obtain ⟨n1, pa1, fr1, tk1, vl1, fk1, fp1, fsh1, hdt1, lt1, e1, rfl, rfl⟩ := z260
                              obtain ⟨rfl, eP⟩ := Prod.mk.inj e1
                              rw [← eP] at hA ⊢
                              obtain ⟨d1, e2⟩ := Prod.mk.inj eP; obtain ⟨d2, e2⟩ := Prod.mk.inj e2; obtain ⟨d3, e2⟩ := Prod.mk.inj e2; obtain ⟨d4, e2⟩ := Prod.mk.inj e2; obtain ⟨d5, e2⟩ := Prod.mk.inj e2; obtain ⟨d6, e2⟩ := Prod.mk.inj e2; obtain ⟨d7, e2⟩ := Prod.mk.inj e2; obtain ⟨d8, d9⟩ := Prod.mk.inj e2
                              replace d5 : fk1 = fk := d5
                              replace d7 : fsh1 = fsh := d7
                              replace d8 : hdt1 = hdt := d8
                              replace d9 : lt1 = lt := d9
                              refine g_if_eq (t := 334) (q := 266) dX6_readLine_263 (by decide) rfl (by first | assumption | exact in32_gB | exact in32_gCmp | (unfold in32; omega)) (fun c263 => ?_) (fun c263 => ?_)
                              · exact absurd c263 (by decide)
                              · have hsr := srP_in (tp := tp) (P := (pa1, fr1, tk1, vl1, fk1, fp1, fsh1, hdt1, lt1))
                                have f1 : fk1 = 0 := by omega
                                have a1 : 0 ≤ fr1 ∧ fr1 ≤ pa1 ∧ pa1 ≤ sz := hA.1.1
                                unfold leQ
                                refine g_aload_n (q := 267) dX6_readLine_266 rfl rfl ?_
                                refine g_cv (I' := iX6_sortHere) (mc := 0) (ms := 0) (rc := 0) (rs := 0) (ci := 7) (q := 270) dX6_readLine_267 q1597 q1599 rfl qs53 gcX6_sortHere mO (c_sortHere (d := d + 2) htp hA.1 hz) rfl rfl ?_
                                refine g_istore_n (q := 271) dX6_readLine_270 gs2 rfl ?_
                                refine g_iload_n (q := 272) dX6_readLine_271 rfl rfl ?_
                                refine g_iconst (q := 273) dX6_readLine_272 rfl ?_
                                refine g_icmp_ne (t := 284) (q := 276) dX6_readLine_273 (by decide) rfl (by first | assumption | exact in32_gB | exact in32_gCmp | (unfold in32; omega)) (by first | assumption | exact in32_gB | exact in32_gCmp | (unfold in32; omega)) (fun c273 => ?_) (fun c273 => ?_)
                                · rw [if_neg c273]; exact l_lean2 hz hA f1 (by omega)
                                · rw [if_pos c273]; exact l_lean1 hz hA.1 f1
                            · exact absurd rfl c232
                          · exact absurd rfl c216
                        · exact absurd rfl c158
                      · exact absurd hf c148
                    · exact absurd c125 nrow
                  · exact absurd c105 nthing
                · exact absurd c84 nhold
theorem c_line_grow (htp : ∀ j, 0 ≤ j → j < 900 → -128 ≤ tp j ∧ tp j < 128) (hz : sz ≤ 900) (hO : PSok sz (pa, fr, tk, vl, fk, fp, fsh, hdt, lt)) (hf : fk = 0) (h : isW tp wGrow (pa, fr, tk, vl, fk, fp, fsh, hdt, lt)) : CALL E iX6_readLine (d + 8) 0 0 [.ref am] (mH E G am th w hs si lo bk iW iH iB iL iS tp td fv sz pa fr tk vl fk fp fsh hdt lt kl kn cp cd bp bl md sw nd mn my wd nm mv) ((qVP fun kP => ∃ pa_ fr_ tk_ vl_ fk_ fp_ fsh_ hdt_ lt_, (pa_, fr_, tk_, vl_, fk_, fp_, fsh_, hdt_, lt_) = enP tp sz (rlP tp sz 0 (PSadv tp sz (pa, fr, tk, vl, fk, fp, fsh, hdt, lt))) ∧ kP = (mH E G am th w hs si lo bk iW iH iB iL iS tp td fv sz pa_ fr_ tk_ vl_ fk_ fp_ fsh_ hdt_ lt_ kl kn cp cd bp bl md sw nd mn my wd nm mv))) := by
  have hP := hO.1
  have p1 : 0 ≤ fr ∧ fr ≤ pa ∧ pa ≤ sz := hP.1
  have w1 : 0 ≤ fsh 1 ∧ fsh 1 ≤ 24 := hO.2.1.1.1
  have w2 : 0 ≤ fsh 2 ∧ fsh 2 ≤ 12 := hO.2.1.1.2.1
  have wh : hdt = 0 ∨ hdt = 1 := hO.2.2.2.1
  have hA := hO.adv (tp := tp)
  refine GO.ok fun ok => ?_
  have nthing : NOT (isW tp wThing (pa, fr, tk, vl, fk, fp, fsh, hdt, lt)) := fun q => absurd (isW_inj h q) (by decide)
  have nrow : NOT (isW tp wRow (pa, fr, tk, vl, fk, fp, fsh, hdt, lt)) := fun q => absurd (isW_inj h q) (by decide)
  have nfall : NOT (isW tp wFall (pa, fr, tk, vl, fk, fp, fsh, hdt, lt)) := fun q => absurd (isW_inj h q) (by decide)
  have nmix : NOT (isW tp wMix (pa, fr, tk, vl, fk, fp, fsh, hdt, lt)) := fun q => absurd (isW_inj h q) (by decide)
  have nhold : NOT (isW tp wHold (pa, fr, tk, vl, fk, fp, fsh, hdt, lt)) := fun q => absurd (isW_inj h q) (by decide)
  have nlean : NOT (isW tp wLean (pa, fr, tk, vl, fk, fp, fsh, hdt, lt)) := fun q => absurd (isW_inj h q) (by decide)
  show GO E iX6_readLine _ _ _ 0 [some (.ref am), none, none] [] _ _
  refine g_aload_n (q := 1) dX6_readLine_0 rfl rfl ?_
  refine g_ldcS (q := 3) dX6_readLine_1 rfl q1563 (litM_thing ok) rfl ?_
  refine g_cv (I' := iX6_is) (mc := 0) (ms := 0) (rc := 0) (rs := 0) (ci := 7) (q := 6) dX6_readLine_3 q1564 q1566 rfl qs47 gcX6_is mO (c_is (d := d + 3) (litM_thing ok).2 htp hP hz) rfl rfl ?_
  refine g_ifneB (t := 63) (q := 9) dX6_readLine_6 (by decide) rfl (fun c6 => ?_) (fun c6 => ?_)
  · exact absurd c6 nthing
  · try clear c6
    refine g_aload_n (q := 10) dX6_readLine_9 rfl rfl ?_
    refine g_ldcS (q := 12) dX6_readLine_10 rfl q1570 (litM_row ok) rfl ?_
    refine g_cv (I' := iX6_is) (mc := 0) (ms := 0) (rc := 0) (rs := 0) (ci := 7) (q := 15) dX6_readLine_12 q1564 q1566 rfl qs47 gcX6_is mO (c_is (d := d + 3) (litM_row ok).2 htp hP hz) rfl rfl ?_
    refine g_ifneB (t := 63) (q := 18) dX6_readLine_15 (by decide) rfl (fun c15 => ?_) (fun c15 => ?_)
    · exact absurd c15 nrow
    · try clear c15
      refine g_aload_n (q := 19) dX6_readLine_18 rfl rfl ?_
      refine g_ldcS (q := 21) dX6_readLine_19 rfl q1571 (litM_grow ok) rfl ?_
      refine g_cv (I' := iX6_is) (mc := 0) (ms := 0) (rc := 0) (rs := 0) (ci := 7) (q := 24) dX6_readLine_21 q1564 q1566 rfl qs47 gcX6_is mO (c_is (d := d + 3) (litM_grow ok).2 htp hP hz) rfl rfl ?_
      refine g_ifneB (t := 63) (q := 27) dX6_readLine_24 (by decide) rfl (fun c24 => ?_) (fun c24 => ?_)
      · try clear c24
        refine g_iconst (q := 64) dX6_readLine_63 rfl ?_
        refine g_goto (t := 68) dX6_readLine_64 (by decide) ?_
        refine g_istore_n (q := 69) dX6_readLine_68 gs1 rfl ?_
        refine g_iload_n (q := 70) dX6_readLine_69 rfl rfl ?_
        refine g_if_ne (t := 78) (q := 73) dX6_readLine_70 (by decide) rfl (by first | assumption | exact in32_gB | exact in32_gCmp | (unfold in32; omega)) (fun c70 => ?_) (fun c70 => absurd c70 (by decide))
        refine g_aload_n (q := 79) dX6_readLine_78 rfl rfl ?_
        refine g_ldcS (q := 81) dX6_readLine_79 rfl q1574 (litM_hold ok) rfl ?_
        refine g_cv (I' := iX6_is) (mc := 0) (ms := 0) (rc := 0) (rs := 0) (ci := 7) (q := 84) dX6_readLine_81 q1564 q1566 rfl qs47 gcX6_is mO (c_is (d := d + 3) (litM_hold ok).2 htp hP hz) rfl rfl ?_
        refine g_ifeqB (t := 99) (q := 87) dX6_readLine_84 (by decide) rfl (fun c84 => ?_) (fun c84 => ?_)
        · try clear c84
          refine g_aload_n (q := 100) dX6_readLine_99 rfl rfl ?_
          refine g_ldcS (q := 102) dX6_readLine_100 rfl q1563 (litM_thing ok) rfl ?_
          refine g_cv (I' := iX6_is) (mc := 0) (ms := 0) (rc := 0) (rs := 0) (ci := 7) (q := 105) dX6_readLine_102 q1564 q1566 rfl qs47 gcX6_is mO (c_is (d := d + 3) (litM_thing ok).2 htp hP hz) rfl rfl ?_
          refine g_ifeqB (t := 119) (q := 108) dX6_readLine_105 (by decide) rfl (fun c105 => ?_) (fun c105 => ?_)
          · try clear c105
            refine g_aload_n (q := 120) dX6_readLine_119 rfl rfl ?_
            refine g_ldcS (q := 122) dX6_readLine_120 rfl q1570 (litM_row ok) rfl ?_
            refine g_cv (I' := iX6_is) (mc := 0) (ms := 0) (rc := 0) (rs := 0) (ci := 7) (q := 125) dX6_readLine_122 q1564 q1566 rfl qs47 gcX6_is mO (c_is (d := d + 3) (litM_row ok).2 htp hP hz) rfl rfl ?_
            refine g_ifeqB (t := 144) (q := 128) dX6_readLine_125 (by decide) rfl (fun c125 => ?_) (fun c125 => ?_)
            · try clear c125
              refine g_aload_n (q := 145) dX6_readLine_144 rfl rfl ?_
              refine g_cv (I' := iX6_good) (mc := 0) (ms := 0) (rc := 0) (rs := 0) (ci := 7) (q := 148) dX6_readLine_145 q1555 q1557 rfl qs45 gcX6_good mO (c_good (by unfold in32; omega)) rfl rfl ?_
              refine g_ifneB (t := 152) (q := 151) dX6_readLine_148 (by decide) rfl (fun c148 => ?_) (fun c148 => ?_)
              · refine g_aload_n (q := 153) dX6_readLine_152 rfl rfl ?_
                refine g_ldcS (q := 155) dX6_readLine_153 rfl q1563 (litM_thing ok) rfl ?_
                refine g_cv (I' := iX6_takes) (mc := 0) (ms := 0) (rc := 0) (rs := 0) (ci := 7) (q := 158) dX6_readLine_155 q1580 q1582 rfl qs49 gcX6_takes mO (c_takes0 (d := d + 2) (litM_thing ok).2 htp hP hz nthing) rfl rfl ?_
                refine g_if_eq (t := 210) (q := 161) dX6_readLine_158 (by decide) rfl (by first | assumption | exact in32_gB | exact in32_gCmp | (unfold in32; omega)) (fun c158 => ?_) (fun c158 => ?_)
                · refine g_aload_n (q := 211) dX6_readLine_210 rfl rfl ?_
                  refine g_ldcS (q := 213) dX6_readLine_211 rfl q1570 (litM_row ok) rfl ?_
                  refine g_cv (I' := iX6_takes) (mc := 0) (ms := 0) (rc := 0) (rs := 0) (ci := 7) (q := 216) dX6_readLine_213 q1580 q1582 rfl qs49 gcX6_takes mO (c_takes0 (d := d + 2) (litM_row ok).2 htp hP hz nrow) rfl rfl ?_
                  refine g_if_eq (t := 226) (q := 219) dX6_readLine_216 (by decide) rfl (by first | assumption | exact in32_gB | exact in32_gCmp | (unfold in32; omega)) (fun c216 => ?_) (fun c216 => ?_)
                  · refine g_aload_n (q := 227) dX6_readLine_226 rfl rfl ?_
                    refine g_ldcS (q := 229) dX6_readLine_227 rfl q1574 (litM_hold ok) rfl ?_
                    refine g_cv (I' := iX6_takes) (mc := 0) (ms := 0) (rc := 0) (rs := 0) (ci := 7) (q := 232) dX6_readLine_229 q1580 q1582 rfl qs49 gcX6_takes mO (c_takes0 (d := d + 2) (litM_hold ok).2 htp hP hz nhold) rfl rfl ?_
                    refine g_if_eq (t := 257) (q := 235) dX6_readLine_232 (by decide) rfl (by first | assumption | exact in32_gB | exact in32_gCmp | (unfold in32; omega)) (fun c232 => ?_) (fun c232 => ?_)
                    · refine g_aload_n (q := 258) dX6_readLine_257 rfl rfl ?_
                      refine g_ldcS (q := 260) dX6_readLine_258 rfl q1575 (litM_lean ok) rfl ?_
                      refine g_cv (I' := iX6_takes) (mc := 0) (ms := 0) (rc := 0) (rs := 0) (ci := 7) (q := 263) dX6_readLine_260 q1580 q1582 rfl qs49 gcX6_takes mO (c_takes0 (d := d + 2) (litM_lean ok).2 htp hP hz nlean) rfl rfl ?_
                      refine g_if_eq (t := 334) (q := 266) dX6_readLine_263 (by decide) rfl (by first | assumption | exact in32_gB | exact in32_gCmp | (unfold in32; omega)) (fun c263 => ?_) (fun c263 => ?_)
                      · refine g_aload_n (q := 335) dX6_readLine_334 rfl rfl ?_
                        refine g_ldcS (q := 337) dX6_readLine_335 rfl q1571 (litM_grow ok) rfl ?_
                        refine g_cv (I' := iX6_is) (mc := 0) (ms := 0) (rc := 0) (rs := 0) (ci := 7) (q := 340) dX6_readLine_337 q1564 q1566 rfl qs47 gcX6_is mO (c_is (d := d + 3) (litM_grow ok).2 htp hP hz) rfl rfl ?_
                        refine g_ifeqB (t := 347) (q := 343) dX6_readLine_340 (by decide) rfl (fun c340 => ?_) (fun c340 => ?_)
                        · exact absurd h c340
                        · refine g_iconst (q := 344) dX6_readLine_343 rfl ?_
                          refine g_goto (t := 361) dX6_readLine_344 (by decide) ?_
                          refine g_istore_n (q := 362) dX6_readLine_361 gs2 rfl ?_
                          refine g_aload_n (q := 363) dX6_readLine_362 rfl rfl ?_
                          refine g_cvV (I' := iX6_advance) (mc := 0) (ms := 0) (rc := 0) (rs := 0) (ci := 7) (q := 366) dX6_readLine_363 q1541 q1543 rfl qs43 gcX6_advance mO (c_advance hz (by omega) p1.2.2) rfl rfl ?_
                          refine g_aload_n (q := 367) dX6_readLine_366 rfl rfl ?_
                          refine g_iload_n (q := 368) dX6_readLine_367 rfl rfl ?_
                          refine g_cvVP (I' := iX6_readLaw) (mc := 0) (ms := 0) (rc := 0) (rs := 0) (ci := 7) (q := 371) dX6_readLine_368 q1605 q1607 rfl qs54 gcX6_readLaw mO (c_readLaw (d := d) htp hz (show PSok sz ((adv tp sz pa vl).1, (adv tp sz pa vl).2.1, (adv tp sz pa vl).2.2.1, (adv tp sz pa vl).2.2.2, fk, fp, fsh, hdt, lt) from hA) hf (by omega)) rfl rfl (fun k368 z368 => ?_)
                          obtain ⟨pa2, fr2, tk2, vl2, fk2, fp2, fsh2, hdt2, lt2, e3, rfl⟩ := z368
                          replace e3 : (pa2, fr2, tk2, vl2, fk2, fp2, fsh2, hdt2, lt2) = rlP tp sz 0 (PSadv tp sz (pa, fr, tk, vl, fk, fp, fsh, hdt, lt)) := e3
                          have ro := (rlP_ok (tp := tp) (v := 0) hA hz hf (by omega)).1
                          rw [← e3] at ro ⊢
                          exact l_end hz ro.1
                      · exact absurd rfl c263
                    · exact absurd rfl c232
                  · exact absurd rfl c216
                · exact absurd rfl c158
              · exact absurd hf c148
            · exact absurd c125 nrow
          · exact absurd c105 nthing
        · exact absurd c84 nhold
      · exact absurd h c24
theorem c_line_fall (htp : ∀ j, 0 ≤ j → j < 900 → -128 ≤ tp j ∧ tp j < 128) (hz : sz ≤ 900) (hO : PSok sz (pa, fr, tk, vl, fk, fp, fsh, hdt, lt)) (hf : fk = 0) (h : isW tp wFall (pa, fr, tk, vl, fk, fp, fsh, hdt, lt)) : CALL E iX6_readLine (d + 8) 0 0 [.ref am] (mH E G am th w hs si lo bk iW iH iB iL iS tp td fv sz pa fr tk vl fk fp fsh hdt lt kl kn cp cd bp bl md sw nd mn my wd nm mv) ((qVP fun kP => ∃ pa_ fr_ tk_ vl_ fk_ fp_ fsh_ hdt_ lt_, (pa_, fr_, tk_, vl_, fk_, fp_, fsh_, hdt_, lt_) = enP tp sz (rlP tp sz 1 (PSadv tp sz (pa, fr, tk, vl, fk, fp, fsh, hdt, lt))) ∧ kP = (mH E G am th w hs si lo bk iW iH iB iL iS tp td fv sz pa_ fr_ tk_ vl_ fk_ fp_ fsh_ hdt_ lt_ kl kn cp cd bp bl md sw nd mn my wd nm mv))) := by
  have hP := hO.1
  have p1 : 0 ≤ fr ∧ fr ≤ pa ∧ pa ≤ sz := hP.1
  have w1 : 0 ≤ fsh 1 ∧ fsh 1 ≤ 24 := hO.2.1.1.1
  have w2 : 0 ≤ fsh 2 ∧ fsh 2 ≤ 12 := hO.2.1.1.2.1
  have wh : hdt = 0 ∨ hdt = 1 := hO.2.2.2.1
  have hA := hO.adv (tp := tp)
  refine GO.ok fun ok => ?_
  have nthing : NOT (isW tp wThing (pa, fr, tk, vl, fk, fp, fsh, hdt, lt)) := fun q => absurd (isW_inj h q) (by decide)
  have nrow : NOT (isW tp wRow (pa, fr, tk, vl, fk, fp, fsh, hdt, lt)) := fun q => absurd (isW_inj h q) (by decide)
  have ngrow : NOT (isW tp wGrow (pa, fr, tk, vl, fk, fp, fsh, hdt, lt)) := fun q => absurd (isW_inj h q) (by decide)
  have nmix : NOT (isW tp wMix (pa, fr, tk, vl, fk, fp, fsh, hdt, lt)) := fun q => absurd (isW_inj h q) (by decide)
  have nhold : NOT (isW tp wHold (pa, fr, tk, vl, fk, fp, fsh, hdt, lt)) := fun q => absurd (isW_inj h q) (by decide)
  have nlean : NOT (isW tp wLean (pa, fr, tk, vl, fk, fp, fsh, hdt, lt)) := fun q => absurd (isW_inj h q) (by decide)
  show GO E iX6_readLine _ _ _ 0 [some (.ref am), none, none] [] _ _
  refine g_aload_n (q := 1) dX6_readLine_0 rfl rfl ?_
  refine g_ldcS (q := 3) dX6_readLine_1 rfl q1563 (litM_thing ok) rfl ?_
  refine g_cv (I' := iX6_is) (mc := 0) (ms := 0) (rc := 0) (rs := 0) (ci := 7) (q := 6) dX6_readLine_3 q1564 q1566 rfl qs47 gcX6_is mO (c_is (d := d + 3) (litM_thing ok).2 htp hP hz) rfl rfl ?_
  refine g_ifneB (t := 63) (q := 9) dX6_readLine_6 (by decide) rfl (fun c6 => ?_) (fun c6 => ?_)
  · exact absurd c6 nthing
  · try clear c6
    refine g_aload_n (q := 10) dX6_readLine_9 rfl rfl ?_
    refine g_ldcS (q := 12) dX6_readLine_10 rfl q1570 (litM_row ok) rfl ?_
    refine g_cv (I' := iX6_is) (mc := 0) (ms := 0) (rc := 0) (rs := 0) (ci := 7) (q := 15) dX6_readLine_12 q1564 q1566 rfl qs47 gcX6_is mO (c_is (d := d + 3) (litM_row ok).2 htp hP hz) rfl rfl ?_
    refine g_ifneB (t := 63) (q := 18) dX6_readLine_15 (by decide) rfl (fun c15 => ?_) (fun c15 => ?_)
    · exact absurd c15 nrow
    · try clear c15
      refine g_aload_n (q := 19) dX6_readLine_18 rfl rfl ?_
      refine g_ldcS (q := 21) dX6_readLine_19 rfl q1571 (litM_grow ok) rfl ?_
      refine g_cv (I' := iX6_is) (mc := 0) (ms := 0) (rc := 0) (rs := 0) (ci := 7) (q := 24) dX6_readLine_21 q1564 q1566 rfl qs47 gcX6_is mO (c_is (d := d + 3) (litM_grow ok).2 htp hP hz) rfl rfl ?_
      refine g_ifneB (t := 63) (q := 27) dX6_readLine_24 (by decide) rfl (fun c24 => ?_) (fun c24 => ?_)
      · exact absurd c24 ngrow
      · try clear c24
        refine g_aload_n (q := 28) dX6_readLine_27 rfl rfl ?_
        refine g_ldcS (q := 30) dX6_readLine_28 rfl q1572 (litM_fall ok) rfl ?_
        refine g_cv (I' := iX6_is) (mc := 0) (ms := 0) (rc := 0) (rs := 0) (ci := 7) (q := 33) dX6_readLine_30 q1564 q1566 rfl qs47 gcX6_is mO (c_is (d := d + 3) (litM_fall ok).2 htp hP hz) rfl rfl ?_
        refine g_ifneB (t := 63) (q := 36) dX6_readLine_33 (by decide) rfl (fun c33 => ?_) (fun c33 => ?_)
        · try clear c33
          refine g_iconst (q := 64) dX6_readLine_63 rfl ?_
          refine g_goto (t := 68) dX6_readLine_64 (by decide) ?_
          refine g_istore_n (q := 69) dX6_readLine_68 gs1 rfl ?_
          refine g_iload_n (q := 70) dX6_readLine_69 rfl rfl ?_
          refine g_if_ne (t := 78) (q := 73) dX6_readLine_70 (by decide) rfl (by first | assumption | exact in32_gB | exact in32_gCmp | (unfold in32; omega)) (fun c70 => ?_) (fun c70 => absurd c70 (by decide))
          refine g_aload_n (q := 79) dX6_readLine_78 rfl rfl ?_
          refine g_ldcS (q := 81) dX6_readLine_79 rfl q1574 (litM_hold ok) rfl ?_
          refine g_cv (I' := iX6_is) (mc := 0) (ms := 0) (rc := 0) (rs := 0) (ci := 7) (q := 84) dX6_readLine_81 q1564 q1566 rfl qs47 gcX6_is mO (c_is (d := d + 3) (litM_hold ok).2 htp hP hz) rfl rfl ?_
          refine g_ifeqB (t := 99) (q := 87) dX6_readLine_84 (by decide) rfl (fun c84 => ?_) (fun c84 => ?_)
          · try clear c84
            refine g_aload_n (q := 100) dX6_readLine_99 rfl rfl ?_
            refine g_ldcS (q := 102) dX6_readLine_100 rfl q1563 (litM_thing ok) rfl ?_
            refine g_cv (I' := iX6_is) (mc := 0) (ms := 0) (rc := 0) (rs := 0) (ci := 7) (q := 105) dX6_readLine_102 q1564 q1566 rfl qs47 gcX6_is mO (c_is (d := d + 3) (litM_thing ok).2 htp hP hz) rfl rfl ?_
            refine g_ifeqB (t := 119) (q := 108) dX6_readLine_105 (by decide) rfl (fun c105 => ?_) (fun c105 => ?_)
            · try clear c105
              refine g_aload_n (q := 120) dX6_readLine_119 rfl rfl ?_
              refine g_ldcS (q := 122) dX6_readLine_120 rfl q1570 (litM_row ok) rfl ?_
              refine g_cv (I' := iX6_is) (mc := 0) (ms := 0) (rc := 0) (rs := 0) (ci := 7) (q := 125) dX6_readLine_122 q1564 q1566 rfl qs47 gcX6_is mO (c_is (d := d + 3) (litM_row ok).2 htp hP hz) rfl rfl ?_
              refine g_ifeqB (t := 144) (q := 128) dX6_readLine_125 (by decide) rfl (fun c125 => ?_) (fun c125 => ?_)
              · try clear c125
                refine g_aload_n (q := 145) dX6_readLine_144 rfl rfl ?_
                refine g_cv (I' := iX6_good) (mc := 0) (ms := 0) (rc := 0) (rs := 0) (ci := 7) (q := 148) dX6_readLine_145 q1555 q1557 rfl qs45 gcX6_good mO (c_good (by unfold in32; omega)) rfl rfl ?_
                refine g_ifneB (t := 152) (q := 151) dX6_readLine_148 (by decide) rfl (fun c148 => ?_) (fun c148 => ?_)
                · refine g_aload_n (q := 153) dX6_readLine_152 rfl rfl ?_
                  refine g_ldcS (q := 155) dX6_readLine_153 rfl q1563 (litM_thing ok) rfl ?_
                  refine g_cv (I' := iX6_takes) (mc := 0) (ms := 0) (rc := 0) (rs := 0) (ci := 7) (q := 158) dX6_readLine_155 q1580 q1582 rfl qs49 gcX6_takes mO (c_takes0 (d := d + 2) (litM_thing ok).2 htp hP hz nthing) rfl rfl ?_
                  refine g_if_eq (t := 210) (q := 161) dX6_readLine_158 (by decide) rfl (by first | assumption | exact in32_gB | exact in32_gCmp | (unfold in32; omega)) (fun c158 => ?_) (fun c158 => ?_)
                  · refine g_aload_n (q := 211) dX6_readLine_210 rfl rfl ?_
                    refine g_ldcS (q := 213) dX6_readLine_211 rfl q1570 (litM_row ok) rfl ?_
                    refine g_cv (I' := iX6_takes) (mc := 0) (ms := 0) (rc := 0) (rs := 0) (ci := 7) (q := 216) dX6_readLine_213 q1580 q1582 rfl qs49 gcX6_takes mO (c_takes0 (d := d + 2) (litM_row ok).2 htp hP hz nrow) rfl rfl ?_
                    refine g_if_eq (t := 226) (q := 219) dX6_readLine_216 (by decide) rfl (by first | assumption | exact in32_gB | exact in32_gCmp | (unfold in32; omega)) (fun c216 => ?_) (fun c216 => ?_)
                    · refine g_aload_n (q := 227) dX6_readLine_226 rfl rfl ?_
                      refine g_ldcS (q := 229) dX6_readLine_227 rfl q1574 (litM_hold ok) rfl ?_
                      refine g_cv (I' := iX6_takes) (mc := 0) (ms := 0) (rc := 0) (rs := 0) (ci := 7) (q := 232) dX6_readLine_229 q1580 q1582 rfl qs49 gcX6_takes mO (c_takes0 (d := d + 2) (litM_hold ok).2 htp hP hz nhold) rfl rfl ?_
                      refine g_if_eq (t := 257) (q := 235) dX6_readLine_232 (by decide) rfl (by first | assumption | exact in32_gB | exact in32_gCmp | (unfold in32; omega)) (fun c232 => ?_) (fun c232 => ?_)
                      · refine g_aload_n (q := 258) dX6_readLine_257 rfl rfl ?_
                        refine g_ldcS (q := 260) dX6_readLine_258 rfl q1575 (litM_lean ok) rfl ?_
                        refine g_cv (I' := iX6_takes) (mc := 0) (ms := 0) (rc := 0) (rs := 0) (ci := 7) (q := 263) dX6_readLine_260 q1580 q1582 rfl qs49 gcX6_takes mO (c_takes0 (d := d + 2) (litM_lean ok).2 htp hP hz nlean) rfl rfl ?_
                        refine g_if_eq (t := 334) (q := 266) dX6_readLine_263 (by decide) rfl (by first | assumption | exact in32_gB | exact in32_gCmp | (unfold in32; omega)) (fun c263 => ?_) (fun c263 => ?_)
                        · refine g_aload_n (q := 335) dX6_readLine_334 rfl rfl ?_
                          refine g_ldcS (q := 337) dX6_readLine_335 rfl q1571 (litM_grow ok) rfl ?_
                          refine g_cv (I' := iX6_is) (mc := 0) (ms := 0) (rc := 0) (rs := 0) (ci := 7) (q := 340) dX6_readLine_337 q1564 q1566 rfl qs47 gcX6_is mO (c_is (d := d + 3) (litM_grow ok).2 htp hP hz) rfl rfl ?_
                          refine g_ifeqB (t := 347) (q := 343) dX6_readLine_340 (by decide) rfl (fun c340 => ?_) (fun c340 => ?_)
                          · refine g_aload_n (q := 348) dX6_readLine_347 rfl rfl ?_
                            refine g_ldcS (q := 350) dX6_readLine_348 rfl q1572 (litM_fall ok) rfl ?_
                            refine g_cv (I' := iX6_is) (mc := 0) (ms := 0) (rc := 0) (rs := 0) (ci := 7) (q := 353) dX6_readLine_350 q1564 q1566 rfl qs47 gcX6_is mO (c_is (d := d + 3) (litM_fall ok).2 htp hP hz) rfl rfl ?_
                            refine g_ifeqB (t := 360) (q := 356) dX6_readLine_353 (by decide) rfl (fun c353 => ?_) (fun c353 => ?_)
                            · exact absurd h c353
                            · refine g_iconst (q := 357) dX6_readLine_356 rfl ?_
                              refine g_goto (t := 361) dX6_readLine_357 (by decide) ?_
                              refine g_istore_n (q := 362) dX6_readLine_361 gs2 rfl ?_
                              refine g_aload_n (q := 363) dX6_readLine_362 rfl rfl ?_
                              refine g_cvV (I' := iX6_advance) (mc := 0) (ms := 0) (rc := 0) (rs := 0) (ci := 7) (q := 366) dX6_readLine_363 q1541 q1543 rfl qs43 gcX6_advance mO (c_advance hz (by omega) p1.2.2) rfl rfl ?_
                              refine g_aload_n (q := 367) dX6_readLine_366 rfl rfl ?_
                              refine g_iload_n (q := 368) dX6_readLine_367 rfl rfl ?_
                              refine g_cvVP (I' := iX6_readLaw) (mc := 0) (ms := 0) (rc := 0) (rs := 0) (ci := 7) (q := 371) dX6_readLine_368 q1605 q1607 rfl qs54 gcX6_readLaw mO (c_readLaw (d := d) htp hz (show PSok sz ((adv tp sz pa vl).1, (adv tp sz pa vl).2.1, (adv tp sz pa vl).2.2.1, (adv tp sz pa vl).2.2.2, fk, fp, fsh, hdt, lt) from hA) hf (by omega)) rfl rfl (fun k368 z368 => ?_)
                              obtain ⟨pa2, fr2, tk2, vl2, fk2, fp2, fsh2, hdt2, lt2, e3, rfl⟩ := z368
                              replace e3 : (pa2, fr2, tk2, vl2, fk2, fp2, fsh2, hdt2, lt2) = rlP tp sz 1 (PSadv tp sz (pa, fr, tk, vl, fk, fp, fsh, hdt, lt)) := e3
                              have ro := (rlP_ok (tp := tp) (v := 1) hA hz hf (by omega)).1
                              rw [← e3] at ro ⊢
                              exact l_end hz ro.1
                          · exact absurd c340 ngrow
                        · exact absurd rfl c263
                      · exact absurd rfl c232
                    · exact absurd rfl c216
                  · exact absurd rfl c158
                · exact absurd hf c148
              · exact absurd c125 nrow
            · exact absurd c105 nthing
          · exact absurd c84 nhold
        · exact absurd h c33
theorem c_line_mix (htp : ∀ j, 0 ≤ j → j < 900 → -128 ≤ tp j ∧ tp j < 128) (hz : sz ≤ 900) (hO : PSok sz (pa, fr, tk, vl, fk, fp, fsh, hdt, lt)) (hf : fk = 0) (h : isW tp wMix (pa, fr, tk, vl, fk, fp, fsh, hdt, lt)) : CALL E iX6_readLine (d + 8) 0 0 [.ref am] (mH E G am th w hs si lo bk iW iH iB iL iS tp td fv sz pa fr tk vl fk fp fsh hdt lt kl kn cp cd bp bl md sw nd mn my wd nm mv) ((qVP fun kP => ∃ pa_ fr_ tk_ vl_ fk_ fp_ fsh_ hdt_ lt_, (pa_, fr_, tk_, vl_, fk_, fp_, fsh_, hdt_, lt_) = enP tp sz (rlP tp sz 2 (PSadv tp sz (pa, fr, tk, vl, fk, fp, fsh, hdt, lt))) ∧ kP = (mH E G am th w hs si lo bk iW iH iB iL iS tp td fv sz pa_ fr_ tk_ vl_ fk_ fp_ fsh_ hdt_ lt_ kl kn cp cd bp bl md sw nd mn my wd nm mv))) := by
  have hP := hO.1
  have p1 : 0 ≤ fr ∧ fr ≤ pa ∧ pa ≤ sz := hP.1
  have w1 : 0 ≤ fsh 1 ∧ fsh 1 ≤ 24 := hO.2.1.1.1
  have w2 : 0 ≤ fsh 2 ∧ fsh 2 ≤ 12 := hO.2.1.1.2.1
  have wh : hdt = 0 ∨ hdt = 1 := hO.2.2.2.1
  have hA := hO.adv (tp := tp)
  refine GO.ok fun ok => ?_
  have nthing : NOT (isW tp wThing (pa, fr, tk, vl, fk, fp, fsh, hdt, lt)) := fun q => absurd (isW_inj h q) (by decide)
  have nrow : NOT (isW tp wRow (pa, fr, tk, vl, fk, fp, fsh, hdt, lt)) := fun q => absurd (isW_inj h q) (by decide)
  have ngrow : NOT (isW tp wGrow (pa, fr, tk, vl, fk, fp, fsh, hdt, lt)) := fun q => absurd (isW_inj h q) (by decide)
  have nfall : NOT (isW tp wFall (pa, fr, tk, vl, fk, fp, fsh, hdt, lt)) := fun q => absurd (isW_inj h q) (by decide)
  have nhold : NOT (isW tp wHold (pa, fr, tk, vl, fk, fp, fsh, hdt, lt)) := fun q => absurd (isW_inj h q) (by decide)
  have nlean : NOT (isW tp wLean (pa, fr, tk, vl, fk, fp, fsh, hdt, lt)) := fun q => absurd (isW_inj h q) (by decide)
  show GO E iX6_readLine _ _ _ 0 [some (.ref am), none, none] [] _ _
  refine g_aload_n (q := 1) dX6_readLine_0 rfl rfl ?_
  refine g_ldcS (q := 3) dX6_readLine_1 rfl q1563 (litM_thing ok) rfl ?_
  refine g_cv (I' := iX6_is) (mc := 0) (ms := 0) (rc := 0) (rs := 0) (ci := 7) (q := 6) dX6_readLine_3 q1564 q1566 rfl qs47 gcX6_is mO (c_is (d := d + 3) (litM_thing ok).2 htp hP hz) rfl rfl ?_
  refine g_ifneB (t := 63) (q := 9) dX6_readLine_6 (by decide) rfl (fun c6 => ?_) (fun c6 => ?_)
  · exact absurd c6 nthing
  · try clear c6
    refine g_aload_n (q := 10) dX6_readLine_9 rfl rfl ?_
    refine g_ldcS (q := 12) dX6_readLine_10 rfl q1570 (litM_row ok) rfl ?_
    refine g_cv (I' := iX6_is) (mc := 0) (ms := 0) (rc := 0) (rs := 0) (ci := 7) (q := 15) dX6_readLine_12 q1564 q1566 rfl qs47 gcX6_is mO (c_is (d := d + 3) (litM_row ok).2 htp hP hz) rfl rfl ?_
    refine g_ifneB (t := 63) (q := 18) dX6_readLine_15 (by decide) rfl (fun c15 => ?_) (fun c15 => ?_)
    · exact absurd c15 nrow
    · try clear c15
      refine g_aload_n (q := 19) dX6_readLine_18 rfl rfl ?_
      refine g_ldcS (q := 21) dX6_readLine_19 rfl q1571 (litM_grow ok) rfl ?_
      refine g_cv (I' := iX6_is) (mc := 0) (ms := 0) (rc := 0) (rs := 0) (ci := 7) (q := 24) dX6_readLine_21 q1564 q1566 rfl qs47 gcX6_is mO (c_is (d := d + 3) (litM_grow ok).2 htp hP hz) rfl rfl ?_
      refine g_ifneB (t := 63) (q := 27) dX6_readLine_24 (by decide) rfl (fun c24 => ?_) (fun c24 => ?_)
      · exact absurd c24 ngrow
      · try clear c24
        refine g_aload_n (q := 28) dX6_readLine_27 rfl rfl ?_
        refine g_ldcS (q := 30) dX6_readLine_28 rfl q1572 (litM_fall ok) rfl ?_
        refine g_cv (I' := iX6_is) (mc := 0) (ms := 0) (rc := 0) (rs := 0) (ci := 7) (q := 33) dX6_readLine_30 q1564 q1566 rfl qs47 gcX6_is mO (c_is (d := d + 3) (litM_fall ok).2 htp hP hz) rfl rfl ?_
        refine g_ifneB (t := 63) (q := 36) dX6_readLine_33 (by decide) rfl (fun c33 => ?_) (fun c33 => ?_)
        · exact absurd c33 nfall
        · try clear c33
          refine g_aload_n (q := 37) dX6_readLine_36 rfl rfl ?_
          refine g_ldcS (q := 39) dX6_readLine_37 rfl q1573 (litM_mix ok) rfl ?_
          refine g_cv (I' := iX6_is) (mc := 0) (ms := 0) (rc := 0) (rs := 0) (ci := 7) (q := 42) dX6_readLine_39 q1564 q1566 rfl qs47 gcX6_is mO (c_is (d := d + 3) (litM_mix ok).2 htp hP hz) rfl rfl ?_
          refine g_ifneB (t := 63) (q := 45) dX6_readLine_42 (by decide) rfl (fun c42 => ?_) (fun c42 => ?_)
          · try clear c42
            refine g_iconst (q := 64) dX6_readLine_63 rfl ?_
            refine g_goto (t := 68) dX6_readLine_64 (by decide) ?_
            refine g_istore_n (q := 69) dX6_readLine_68 gs1 rfl ?_
            refine g_iload_n (q := 70) dX6_readLine_69 rfl rfl ?_
            refine g_if_ne (t := 78) (q := 73) dX6_readLine_70 (by decide) rfl (by first | assumption | exact in32_gB | exact in32_gCmp | (unfold in32; omega)) (fun c70 => ?_) (fun c70 => absurd c70 (by decide))
            refine g_aload_n (q := 79) dX6_readLine_78 rfl rfl ?_
            refine g_ldcS (q := 81) dX6_readLine_79 rfl q1574 (litM_hold ok) rfl ?_
            refine g_cv (I' := iX6_is) (mc := 0) (ms := 0) (rc := 0) (rs := 0) (ci := 7) (q := 84) dX6_readLine_81 q1564 q1566 rfl qs47 gcX6_is mO (c_is (d := d + 3) (litM_hold ok).2 htp hP hz) rfl rfl ?_
            refine g_ifeqB (t := 99) (q := 87) dX6_readLine_84 (by decide) rfl (fun c84 => ?_) (fun c84 => ?_)
            · try clear c84
              refine g_aload_n (q := 100) dX6_readLine_99 rfl rfl ?_
              refine g_ldcS (q := 102) dX6_readLine_100 rfl q1563 (litM_thing ok) rfl ?_
              refine g_cv (I' := iX6_is) (mc := 0) (ms := 0) (rc := 0) (rs := 0) (ci := 7) (q := 105) dX6_readLine_102 q1564 q1566 rfl qs47 gcX6_is mO (c_is (d := d + 3) (litM_thing ok).2 htp hP hz) rfl rfl ?_
              refine g_ifeqB (t := 119) (q := 108) dX6_readLine_105 (by decide) rfl (fun c105 => ?_) (fun c105 => ?_)
              · try clear c105
                refine g_aload_n (q := 120) dX6_readLine_119 rfl rfl ?_
                refine g_ldcS (q := 122) dX6_readLine_120 rfl q1570 (litM_row ok) rfl ?_
                refine g_cv (I' := iX6_is) (mc := 0) (ms := 0) (rc := 0) (rs := 0) (ci := 7) (q := 125) dX6_readLine_122 q1564 q1566 rfl qs47 gcX6_is mO (c_is (d := d + 3) (litM_row ok).2 htp hP hz) rfl rfl ?_
                refine g_ifeqB (t := 144) (q := 128) dX6_readLine_125 (by decide) rfl (fun c125 => ?_) (fun c125 => ?_)
                · try clear c125
                  refine g_aload_n (q := 145) dX6_readLine_144 rfl rfl ?_
                  refine g_cv (I' := iX6_good) (mc := 0) (ms := 0) (rc := 0) (rs := 0) (ci := 7) (q := 148) dX6_readLine_145 q1555 q1557 rfl qs45 gcX6_good mO (c_good (by unfold in32; omega)) rfl rfl ?_
                  refine g_ifneB (t := 152) (q := 151) dX6_readLine_148 (by decide) rfl (fun c148 => ?_) (fun c148 => ?_)
                  · refine g_aload_n (q := 153) dX6_readLine_152 rfl rfl ?_
                    refine g_ldcS (q := 155) dX6_readLine_153 rfl q1563 (litM_thing ok) rfl ?_
                    refine g_cv (I' := iX6_takes) (mc := 0) (ms := 0) (rc := 0) (rs := 0) (ci := 7) (q := 158) dX6_readLine_155 q1580 q1582 rfl qs49 gcX6_takes mO (c_takes0 (d := d + 2) (litM_thing ok).2 htp hP hz nthing) rfl rfl ?_
                    refine g_if_eq (t := 210) (q := 161) dX6_readLine_158 (by decide) rfl (by first | assumption | exact in32_gB | exact in32_gCmp | (unfold in32; omega)) (fun c158 => ?_) (fun c158 => ?_)
                    · refine g_aload_n (q := 211) dX6_readLine_210 rfl rfl ?_
                      refine g_ldcS (q := 213) dX6_readLine_211 rfl q1570 (litM_row ok) rfl ?_
                      refine g_cv (I' := iX6_takes) (mc := 0) (ms := 0) (rc := 0) (rs := 0) (ci := 7) (q := 216) dX6_readLine_213 q1580 q1582 rfl qs49 gcX6_takes mO (c_takes0 (d := d + 2) (litM_row ok).2 htp hP hz nrow) rfl rfl ?_
                      refine g_if_eq (t := 226) (q := 219) dX6_readLine_216 (by decide) rfl (by first | assumption | exact in32_gB | exact in32_gCmp | (unfold in32; omega)) (fun c216 => ?_) (fun c216 => ?_)
                      · refine g_aload_n (q := 227) dX6_readLine_226 rfl rfl ?_
                        refine g_ldcS (q := 229) dX6_readLine_227 rfl q1574 (litM_hold ok) rfl ?_
                        refine g_cv (I' := iX6_takes) (mc := 0) (ms := 0) (rc := 0) (rs := 0) (ci := 7) (q := 232) dX6_readLine_229 q1580 q1582 rfl qs49 gcX6_takes mO (c_takes0 (d := d + 2) (litM_hold ok).2 htp hP hz nhold) rfl rfl ?_
                        refine g_if_eq (t := 257) (q := 235) dX6_readLine_232 (by decide) rfl (by first | assumption | exact in32_gB | exact in32_gCmp | (unfold in32; omega)) (fun c232 => ?_) (fun c232 => ?_)
                        · refine g_aload_n (q := 258) dX6_readLine_257 rfl rfl ?_
                          refine g_ldcS (q := 260) dX6_readLine_258 rfl q1575 (litM_lean ok) rfl ?_
                          refine g_cv (I' := iX6_takes) (mc := 0) (ms := 0) (rc := 0) (rs := 0) (ci := 7) (q := 263) dX6_readLine_260 q1580 q1582 rfl qs49 gcX6_takes mO (c_takes0 (d := d + 2) (litM_lean ok).2 htp hP hz nlean) rfl rfl ?_
                          refine g_if_eq (t := 334) (q := 266) dX6_readLine_263 (by decide) rfl (by first | assumption | exact in32_gB | exact in32_gCmp | (unfold in32; omega)) (fun c263 => ?_) (fun c263 => ?_)
                          · refine g_aload_n (q := 335) dX6_readLine_334 rfl rfl ?_
                            refine g_ldcS (q := 337) dX6_readLine_335 rfl q1571 (litM_grow ok) rfl ?_
                            refine g_cv (I' := iX6_is) (mc := 0) (ms := 0) (rc := 0) (rs := 0) (ci := 7) (q := 340) dX6_readLine_337 q1564 q1566 rfl qs47 gcX6_is mO (c_is (d := d + 3) (litM_grow ok).2 htp hP hz) rfl rfl ?_
                            refine g_ifeqB (t := 347) (q := 343) dX6_readLine_340 (by decide) rfl (fun c340 => ?_) (fun c340 => ?_)
                            · refine g_aload_n (q := 348) dX6_readLine_347 rfl rfl ?_
                              refine g_ldcS (q := 350) dX6_readLine_348 rfl q1572 (litM_fall ok) rfl ?_
                              refine g_cv (I' := iX6_is) (mc := 0) (ms := 0) (rc := 0) (rs := 0) (ci := 7) (q := 353) dX6_readLine_350 q1564 q1566 rfl qs47 gcX6_is mO (c_is (d := d + 3) (litM_fall ok).2 htp hP hz) rfl rfl ?_
                              refine g_ifeqB (t := 360) (q := 356) dX6_readLine_353 (by decide) rfl (fun c353 => ?_) (fun c353 => ?_)
                              · refine g_iconst (q := 361) dX6_readLine_360 rfl ?_
                                refine g_istore_n (q := 362) dX6_readLine_361 gs2 rfl ?_
                                refine g_aload_n (q := 363) dX6_readLine_362 rfl rfl ?_
                                refine g_cvV (I' := iX6_advance) (mc := 0) (ms := 0) (rc := 0) (rs := 0) (ci := 7) (q := 366) dX6_readLine_363 q1541 q1543 rfl qs43 gcX6_advance mO (c_advance hz (by omega) p1.2.2) rfl rfl ?_
                                refine g_aload_n (q := 367) dX6_readLine_366 rfl rfl ?_
                                refine g_iload_n (q := 368) dX6_readLine_367 rfl rfl ?_
                                refine g_cvVP (I' := iX6_readLaw) (mc := 0) (ms := 0) (rc := 0) (rs := 0) (ci := 7) (q := 371) dX6_readLine_368 q1605 q1607 rfl qs54 gcX6_readLaw mO (c_readLaw (d := d) htp hz (show PSok sz ((adv tp sz pa vl).1, (adv tp sz pa vl).2.1, (adv tp sz pa vl).2.2.1, (adv tp sz pa vl).2.2.2, fk, fp, fsh, hdt, lt) from hA) hf (by omega)) rfl rfl (fun k368 z368 => ?_)
                                obtain ⟨pa2, fr2, tk2, vl2, fk2, fp2, fsh2, hdt2, lt2, e3, rfl⟩ := z368
                                replace e3 : (pa2, fr2, tk2, vl2, fk2, fp2, fsh2, hdt2, lt2) = rlP tp sz 2 (PSadv tp sz (pa, fr, tk, vl, fk, fp, fsh, hdt, lt)) := e3
                                have ro := (rlP_ok (tp := tp) (v := 2) hA hz hf (by omega)).1
                                rw [← e3] at ro ⊢
                                exact l_end hz ro.1
                              · exact absurd c353 nfall
                            · exact absurd c340 ngrow
                          · exact absurd rfl c263
                        · exact absurd rfl c232
                      · exact absurd rfl c216
                    · exact absurd rfl c158
                  · exact absurd hf c148
                · exact absurd c125 nrow
              · exact absurd c105 nthing
            · exact absurd c84 nhold
          · exact absurd h c42
theorem c_line_no (htp : ∀ j, 0 ≤ j → j < 900 → -128 ≤ tp j ∧ tp j < 128) (hz : sz ≤ 900) (hO : PSok sz (pa, fr, tk, vl, fk, fp, fsh, hdt, lt)) (hf : fk = 0) (nthing : NOT (isW tp wThing (pa, fr, tk, vl, fk, fp, fsh, hdt, lt))) (nrow : NOT (isW tp wRow (pa, fr, tk, vl, fk, fp, fsh, hdt, lt))) (ngrow : NOT (isW tp wGrow (pa, fr, tk, vl, fk, fp, fsh, hdt, lt))) (nfall : NOT (isW tp wFall (pa, fr, tk, vl, fk, fp, fsh, hdt, lt))) (nmix : NOT (isW tp wMix (pa, fr, tk, vl, fk, fp, fsh, hdt, lt))) (nhold : NOT (isW tp wHold (pa, fr, tk, vl, fk, fp, fsh, hdt, lt))) (nlean : NOT (isW tp wLean (pa, fr, tk, vl, fk, fp, fsh, hdt, lt))) : CALL E iX6_readLine (d + 8) 0 0 [.ref am] (mH E G am th w hs si lo bk iW iH iB iL iS tp td fv sz pa fr tk vl fk fp fsh hdt lt kl kn cp cd bp bl md sw nd mn my wd nm mv) ((qVP fun kP => ∃ pa_ fr_ tk_ vl_ fk_ fp_ fsh_ hdt_ lt_, (pa_, fr_, tk_, vl_, fk_, fp_, fsh_, hdt_, lt_) = PSerr 1 (pa, fr, tk, vl, fk, fp, fsh, hdt, lt) ∧ kP = (mH E G am th w hs si lo bk iW iH iB iL iS tp td fv sz pa_ fr_ tk_ vl_ fk_ fp_ fsh_ hdt_ lt_ kl kn cp cd bp bl md sw nd mn my wd nm mv))) := by
  have hP := hO.1
  have p1 : 0 ≤ fr ∧ fr ≤ pa ∧ pa ≤ sz := hP.1
  have w1 : 0 ≤ fsh 1 ∧ fsh 1 ≤ 24 := hO.2.1.1.1
  have w2 : 0 ≤ fsh 2 ∧ fsh 2 ≤ 12 := hO.2.1.1.2.1
  have wh : hdt = 0 ∨ hdt = 1 := hO.2.2.2.1
  have hA := hO.adv (tp := tp)
  refine GO.ok fun ok => ?_
  have nW : ∀ bs : List Int, NOT (isW tp bs (pa, fr, tk, vl, 1, fr, fsh, hdt, lt)) := fun bs q => absurd q.1 (by show ¬ (1 : Int) = 0; decide)
  show GO E iX6_readLine _ _ _ 0 [some (.ref am), none, none] [] _ _
  refine g_aload_n (q := 1) dX6_readLine_0 rfl rfl ?_
  refine g_ldcS (q := 3) dX6_readLine_1 rfl q1563 (litM_thing ok) rfl ?_
  refine g_cv (I' := iX6_is) (mc := 0) (ms := 0) (rc := 0) (rs := 0) (ci := 7) (q := 6) dX6_readLine_3 q1564 q1566 rfl qs47 gcX6_is mO (c_is (d := d + 3) (litM_thing ok).2 htp hP hz) rfl rfl ?_
  refine g_ifneB (t := 63) (q := 9) dX6_readLine_6 (by decide) rfl (fun c6 => ?_) (fun c6 => ?_)
  · exact absurd c6 nthing
  · try clear c6
    refine g_aload_n (q := 10) dX6_readLine_9 rfl rfl ?_
    refine g_ldcS (q := 12) dX6_readLine_10 rfl q1570 (litM_row ok) rfl ?_
    refine g_cv (I' := iX6_is) (mc := 0) (ms := 0) (rc := 0) (rs := 0) (ci := 7) (q := 15) dX6_readLine_12 q1564 q1566 rfl qs47 gcX6_is mO (c_is (d := d + 3) (litM_row ok).2 htp hP hz) rfl rfl ?_
    refine g_ifneB (t := 63) (q := 18) dX6_readLine_15 (by decide) rfl (fun c15 => ?_) (fun c15 => ?_)
    · exact absurd c15 nrow
    · try clear c15
      refine g_aload_n (q := 19) dX6_readLine_18 rfl rfl ?_
      refine g_ldcS (q := 21) dX6_readLine_19 rfl q1571 (litM_grow ok) rfl ?_
      refine g_cv (I' := iX6_is) (mc := 0) (ms := 0) (rc := 0) (rs := 0) (ci := 7) (q := 24) dX6_readLine_21 q1564 q1566 rfl qs47 gcX6_is mO (c_is (d := d + 3) (litM_grow ok).2 htp hP hz) rfl rfl ?_
      refine g_ifneB (t := 63) (q := 27) dX6_readLine_24 (by decide) rfl (fun c24 => ?_) (fun c24 => ?_)
      · exact absurd c24 ngrow
      · try clear c24
        refine g_aload_n (q := 28) dX6_readLine_27 rfl rfl ?_
        refine g_ldcS (q := 30) dX6_readLine_28 rfl q1572 (litM_fall ok) rfl ?_
        refine g_cv (I' := iX6_is) (mc := 0) (ms := 0) (rc := 0) (rs := 0) (ci := 7) (q := 33) dX6_readLine_30 q1564 q1566 rfl qs47 gcX6_is mO (c_is (d := d + 3) (litM_fall ok).2 htp hP hz) rfl rfl ?_
        refine g_ifneB (t := 63) (q := 36) dX6_readLine_33 (by decide) rfl (fun c33 => ?_) (fun c33 => ?_)
        · exact absurd c33 nfall
        · try clear c33
          refine g_aload_n (q := 37) dX6_readLine_36 rfl rfl ?_
          refine g_ldcS (q := 39) dX6_readLine_37 rfl q1573 (litM_mix ok) rfl ?_
          refine g_cv (I' := iX6_is) (mc := 0) (ms := 0) (rc := 0) (rs := 0) (ci := 7) (q := 42) dX6_readLine_39 q1564 q1566 rfl qs47 gcX6_is mO (c_is (d := d + 3) (litM_mix ok).2 htp hP hz) rfl rfl ?_
          refine g_ifneB (t := 63) (q := 45) dX6_readLine_42 (by decide) rfl (fun c42 => ?_) (fun c42 => ?_)
          · exact absurd c42 nmix
          · try clear c42
            refine g_aload_n (q := 46) dX6_readLine_45 rfl rfl ?_
            refine g_ldcS (q := 48) dX6_readLine_46 rfl q1574 (litM_hold ok) rfl ?_
            refine g_cv (I' := iX6_is) (mc := 0) (ms := 0) (rc := 0) (rs := 0) (ci := 7) (q := 51) dX6_readLine_48 q1564 q1566 rfl qs47 gcX6_is mO (c_is (d := d + 3) (litM_hold ok).2 htp hP hz) rfl rfl ?_
            refine g_ifneB (t := 63) (q := 54) dX6_readLine_51 (by decide) rfl (fun c51 => ?_) (fun c51 => ?_)
            · exact absurd c51 nhold
            · try clear c51
              refine g_aload_n (q := 55) dX6_readLine_54 rfl rfl ?_
              refine g_ldcS (q := 57) dX6_readLine_55 rfl q1575 (litM_lean ok) rfl ?_
              refine g_cv (I' := iX6_is) (mc := 0) (ms := 0) (rc := 0) (rs := 0) (ci := 7) (q := 60) dX6_readLine_57 q1564 q1566 rfl qs47 gcX6_is mO (c_is (d := d + 3) (litM_lean ok).2 htp hP hz) rfl rfl ?_
              refine g_ifeqB (t := 67) (q := 63) dX6_readLine_60 (by decide) rfl (fun c60 => ?_) (fun c60 => ?_)
              · try clear c60
                refine g_iconst (q := 68) dX6_readLine_67 rfl ?_
                refine g_istore_n (q := 69) dX6_readLine_68 gs1 rfl ?_
                refine g_iload_n (q := 70) dX6_readLine_69 rfl rfl ?_
                refine g_if_ne (t := 78) (q := 73) dX6_readLine_70 (by decide) rfl (by first | assumption | exact in32_gB | exact in32_gCmp | (unfold in32; omega)) (fun c70 => absurd c70 (by decide)) (fun c70 => ?_)
                refine g_aload_n (q := 74) dX6_readLine_73 rfl rfl ?_
                refine g_iconst (q := 75) dX6_readLine_74 rfl ?_
                refine g_cvV (I' := iX6_errs) (mc := 0) (ms := 0) (rc := 0) (rs := 0) (ci := 7) (q := 78) dX6_readLine_75 q1576 q1578 rfl qs48 gcX6_errs mO (c_errs hf) rfl rfl ?_
                refine g_aload_n (q := 79) dX6_readLine_78 rfl rfl ?_
                refine g_ldcS (q := 81) dX6_readLine_79 rfl q1574 (litM_hold ok) rfl ?_
                refine g_cv (I' := iX6_is) (mc := 0) (ms := 0) (rc := 0) (rs := 0) (ci := 7) (q := 84) dX6_readLine_81 q1564 q1566 rfl qs47 gcX6_is mO (c_is (d := d + 3) (litM_hold ok).2 htp (show PSt sz (pa, fr, tk, vl, 1, fr, fsh, hdt, lt) from hP.err (k := 1) (by decide)) hz) rfl rfl ?_
                refine g_ifeqB (t := 99) (q := 87) dX6_readLine_84 (by decide) rfl (fun c84 => ?_) (fun c84 => ?_)
                · try clear c84
                  refine g_aload_n (q := 100) dX6_readLine_99 rfl rfl ?_
                  refine g_ldcS (q := 102) dX6_readLine_100 rfl q1563 (litM_thing ok) rfl ?_
                  refine g_cv (I' := iX6_is) (mc := 0) (ms := 0) (rc := 0) (rs := 0) (ci := 7) (q := 105) dX6_readLine_102 q1564 q1566 rfl qs47 gcX6_is mO (c_is (d := d + 3) (litM_thing ok).2 htp (show PSt sz (pa, fr, tk, vl, 1, fr, fsh, hdt, lt) from hP.err (k := 1) (by decide)) hz) rfl rfl ?_
                  refine g_ifeqB (t := 119) (q := 108) dX6_readLine_105 (by decide) rfl (fun c105 => ?_) (fun c105 => ?_)
                  · try clear c105
                    refine g_aload_n (q := 120) dX6_readLine_119 rfl rfl ?_
                    refine g_ldcS (q := 122) dX6_readLine_120 rfl q1570 (litM_row ok) rfl ?_
                    refine g_cv (I' := iX6_is) (mc := 0) (ms := 0) (rc := 0) (rs := 0) (ci := 7) (q := 125) dX6_readLine_122 q1564 q1566 rfl qs47 gcX6_is mO (c_is (d := d + 3) (litM_row ok).2 htp (show PSt sz (pa, fr, tk, vl, 1, fr, fsh, hdt, lt) from hP.err (k := 1) (by decide)) hz) rfl rfl ?_
                    refine g_ifeqB (t := 144) (q := 128) dX6_readLine_125 (by decide) rfl (fun c125 => ?_) (fun c125 => ?_)
                    · try clear c125
                      refine g_aload_n (q := 145) dX6_readLine_144 rfl rfl ?_
                      refine g_cv (I' := iX6_good) (mc := 0) (ms := 0) (rc := 0) (rs := 0) (ci := 7) (q := 148) dX6_readLine_145 q1555 q1557 rfl qs45 gcX6_good mO (c_good (by unfold in32; omega)) rfl rfl ?_
                      refine g_ifneB (t := 152) (q := 151) dX6_readLine_148 (by decide) rfl (fun c148 => ?_) (fun c148 => ?_)
                      · exact absurd c148 (by decide)
                      · exact g_vret dX6_readLine_151 rfl ⟨rfl, _, _, _, _, _, _, _, _, _, rfl, rfl⟩
                    · exact absurd c125 (nW _)
                  · exact absurd c105 (nW _)
                · exact absurd c84 (nW _)
              · exact absurd c60 nlean
theorem c_readLine (htp : ∀ j, 0 ≤ j → j < 900 → -128 ≤ tp j ∧ tp j < 128) (hz : sz ≤ 900) (hO : PSok sz (pa, fr, tk, vl, fk, fp, fsh, hdt, lt)) (hf : fk = 0) : CALL E iX6_readLine (d + 8) 0 0 [.ref am] (mH E G am th w hs si lo bk iW iH iB iL iS tp td fv sz pa fr tk vl fk fp fsh hdt lt kl kn cp cd bp bl md sw nd mn my wd nm mv) ((qVP fun kP => ∃ pa_ fr_ tk_ vl_ fk_ fp_ fsh_ hdt_ lt_, (pa_, fr_, tk_, vl_, fk_, fp_, fsh_, hdt_, lt_) = lnP tp sz (pa, fr, tk, vl, fk, fp, fsh, hdt, lt) ∧ kP = (mH E G am th w hs si lo bk iW iH iB iL iS tp td fv sz pa_ fr_ tk_ vl_ fk_ fp_ fsh_ hdt_ lt_ kl kn cp cd bp bl md sw nd mn my wd nm mv))) := by
  unfold lnP
  by_cases z1 : isW tp wThing (pa, fr, tk, vl, fk, fp, fsh, hdt, lt)
  · rw [if_pos z1]
    by_cases y : fsh 1 = 24
    · rw [if_pos y]; exact c_line_thing0 htp hz hO hf z1 y
    · rw [if_neg y]; exact c_line_thing htp hz hO hf z1 y
  · rw [if_neg z1]
    by_cases z2 : isW tp wRow (pa, fr, tk, vl, fk, fp, fsh, hdt, lt)
    · rw [if_pos z2]
      by_cases y : fsh 2 = 12
      · rw [if_pos y]; exact c_line_row0 htp hz hO hf z2 y
      · rw [if_neg y]; exact c_line_row htp hz hO hf z2 y
    · rw [if_neg z2]
      by_cases z3 : isW tp wHold (pa, fr, tk, vl, fk, fp, fsh, hdt, lt)
      · rw [if_pos z3]
        by_cases y : hdt = 0
        · rw [if_pos y]; exact c_line_hold htp hz hO hf z3 y
        · rw [if_neg y]; exact c_line_hold0 htp hz hO hf z3 y
      · rw [if_neg z3]
        by_cases z4 : isW tp wLean (pa, fr, tk, vl, fk, fp, fsh, hdt, lt)
        · rw [if_pos z4]; exact c_line_lean htp hz hO hf z4
        · rw [if_neg z4]
          by_cases z5 : isW tp wGrow (pa, fr, tk, vl, fk, fp, fsh, hdt, lt)
          · rw [if_pos z5]; exact c_line_grow htp hz hO hf z5
          · rw [if_neg z5]
            by_cases z6 : isW tp wFall (pa, fr, tk, vl, fk, fp, fsh, hdt, lt)
            · rw [if_pos z6]; exact c_line_fall htp hz hO hf z6
            · rw [if_neg z6]
              by_cases z7 : isW tp wMix (pa, fr, tk, vl, fk, fp, fsh, hdt, lt)
              · rw [if_pos z7]; exact c_line_mix htp hz hO hf z7
              · rw [if_neg z7]; exact c_line_no htp hz hO hf z1 z2 z5 z6 z7 z3 z4
end
