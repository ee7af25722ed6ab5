/-! LAW 12, part 2 -/
set_option maxRecDepth 100000
theorem LC_keepRow {d : Nat} {x m out outD sc len : Nat} {scr : Nat → Int32} {h : xG} {S : xMS} {i : Nat} (hJ : xJ x m out outD sc len scr h S) (hi : i + 6 ≤ len) (hl : len ≤ 144) {Q : Option Value ⊕ Nat → xG → Prop} (k : ∀ h' S', xJ x m out outD sc len scr h' S' → xsz h' + xsl h' ≤ xsz h + xsl h + 46100 → XW M_L_law (d + 92) 3272 [(0, .ref sc), (1, .ref x), (2, .ref m), (3, .ref out), (4, .ref outD), (5, .int (nI i))] [] h' Q) : XW M_L_law (d + 92) 2480 [(0, .ref sc), (1, .ref x), (2, .ref m), (3, .ref out), (4, .ref outD), (5, .int (nI i))] [] h Q := by
  obtain ⟨p_, lk_, fa_, ka_, la_, Z_, n_, rr_, ww_, dq_, da_, hh_, ps_, sv_, hp_⟩ := hJ.1.1.p
  have hx : xtag h x = 1 := hp_.M.tx
  have c1 := hJ.2.2.2.2.1
  have c3 := hJ.2.2.2.2.2.2.1
  have c4 := hJ.2.2.2.2.2.2.2
  have oo := hJ.2.2.1
  have oD := hJ.2.2.2.1
  obtain ⟨c, b, S', hc, hP, hR, hW⟩ := W_keepRow (out := out) hJ.1.1 hJ.1.2 hx oo (p0 := scr (i + 1))
  refine xw_aload_n (pc := 2480) dL_law_2480 1 rfl ?_
  refine xw_aload_n (pc := 2481) dL_law_2481 0 rfl ?_
  refine xw_iload (pc := 2482) dL_law_2482 5 rfl ?_
  refine xw_iconst (v := nI 1) (pc := 2484) dL_law_2484 rfl ?_
  refine xn_iadd (pc := 2485) dL_law_2485 ?_
  refine xw_iald (k := (i + 1)) (pc := 2486) dL_law_2486 (by simp [-List.getD_eq_getElem?_getD, xE_setI, xsz_setI, xsl_setI, xtag_setI, xown_setI, xlen_setI, xE_setR, xsz_setR, xsl_setR, xtag_setR, xown_setR, xlen_setR, xE_setW, xsz_setW, xsl_setW, xtag_setW, xown_setW, xlen_setW, xi_setR, xi_setW, xr_setI, xr_setW, xww_setI, xww_setR, xi_setI, xr_setR, xww_setW, xE_new, xsz_new, xsl_new, hx, c1]) rfl (by rw [c3]; omega) ?_
  rw [c4 (i + 1) (by omega)]
  refine xw_aload_n (pc := 2487) dL_law_2487 3 rfl ?_
  refine xw_callF (pc := 2488) (xr_SX (as := [_, _, _]) ok_X0_keepRow rfl (by decide) q1746 q1747 dL_law_2488 rfl rfl (Nat.le_of_ble_eq_true rfl)) (hW d) ?_
  intro g1 hc1 hm1
  obtain ⟨st1, F1, w1⟩ := hc1
  refine xw_istore (l' := [(6, _), (0, _), (1, _), (2, _), (3, _), (4, _), (5, _)]) (pc := 2491) dL_law_2491 (by decide) rfl ?_
  obtain ⟨hK1, ⟨hM1, h31, he1⟩, ho1, hoD1, hs1⟩ := hJ.mid st1 F1 (by unfold oW; omega) (by unfold oW; omega)
  have tw1 : xtag (xWith g1 m S) sc = 101 := (he1.ti.1 sc).trans hs1.1
  have lw1 : xlen (xWith g1 m S) sc = len := (he1.ti.2.1 sc).trans hs1.2.2.1
  have iw1 : ∀ j, j < len → xi (xWith g1 m S) sc j = scr j := fun j hj => (he1.ti.2.2 sc j).trans (hs1.2.2.2 j hj)
  refine XW.eqv he1.symm ?_
  refine xw_aload_n (pc := 2493) dL_law_2493 3 rfl ?_
  refine xw_aload_n (pc := 2494) dL_law_2494 1 rfl ?_
  refine xw_iload (pc := 2495) dL_law_2495 6 rfl ?_
  refine xw_iconst (v := nI 1) (pc := 2497) dL_law_2497 rfl ?_
  refine xn_iadd (pc := 2498) dL_law_2498 ?_
  refine xw_iald (k := (i + 1)) (pc := 2499) dL_law_2499 (by simp [-List.getD_eq_getElem?_getD, xE_setI, xsz_setI, xsl_setI, xtag_setI, xown_setI, xlen_setI, xE_setR, xsz_setR, xsl_setR, xtag_setR, xown_setR, xlen_setR, xE_setW, xsz_setW, xsl_setW, xtag_setW, xown_setW, xlen_setW, xi_setR, xi_setW, xr_setI, xr_setW, xww_setI, xww_setR, xi_setI, xr_setR, xww_setW, xE_new, xsz_new, xsl_new, hx, c1, tw1]) rfl (by rw [lw1]; omega) ?_
  rw [iw1 (i + 1) (by omega)]
  refine xw_callF (pc := 2500) (xr_V (as := [_]) ok_X6_keepRow rfl (by decide) q2645 q2646 q2647 (by rw [xtag_with]; first | (rw [hM1.1]; rfl) | (rw [hM3.1]; rfl)) (by rw [xtag_with]; first | (rw [hM1.1]; rfl) | (rw [hM3.1]; rfl)) dL_law_2500 rfl rfl (Nat.le_of_ble_eq_true rfl)) (jR.val (hR (d + 1) g1 m hM1 h31 hK1)) ?_
  intro g2 hc2 hm2
  obtain ⟨g3, T, e3, ag, c6, hM3, h33, F3⟩ := hc2
  subst e3
  obtain ⟨hJ2, F4⟩ := xJ.done st1 hK1 ho1 hoD1 hs1 ag hM3 h33 F3
  have hsz : xsz (xWith g3 m T) + xsl (xWith g3 m T) ≤ xsz h + xsl h + 46100 := by
    have := F1.2.2.2.1
    have := F4.2.2.2.1
    omega
  have t2o := hJ2.2.2.1.1
  have t2D := hJ2.2.2.2.1.1
  refine xw_istore (l' := [(7, _), (6, _), (0, _), (1, _), (2, _), (3, _), (4, _), (5, _)]) (pc := 2503) dL_law_2503 (by decide) rfl ?_
  refine xw_aload_n (pc := 2505) dL_law_2505 4 rfl ?_
  refine xw_callV (pc := 2506) (xr_V (as := []) ok_X6_thrown rfl (by decide) q2352 q2353 q2354 (by rw [xtag_with]; first | (rw [hM1.1]; rfl) | (rw [hM3.1]; rfl)) (by rw [xtag_with]; first | (rw [hM1.1]; rfl) | (rw [hM3.1]; rfl)) dL_law_2506 rfl rfl (Nat.le_of_ble_eq_true rfl)) (by have z := SP_X6_thrown (d := d + 91) (S := T) hM3; rw [c6] at z; exact z) ?_
  refine xw_iload (pc := 2509) dL_law_2509 1 rfl ?_
  refine xw_icmp_eq (pc := 2511) 2516 dL_law_2511 rfl (fun hb2511 => ?_) (fun hb2511 => ?_)
  rotate_left
  · exfalso
    replace hb2511 : ¬ (c = c) := mt (nI_eq (a := c) (b := c) (by omega) (by omega)).mpr hb2511
    omega
  replace hb2511 : c = c := (nI_eq (a := c) (b := c) (by omega) (by omega)).mp hb2511
  refine xw_iload (pc := 2516) dL_law_2516 1 rfl ?_
  refine xw_if_ne (pc := 2518) 2533 dL_law_2518 rfl (fun hb2518 => ?_) (fun hb2518 => ?_)
  · replace hb2518 : ¬ (c = 0) := mt (nI_eq (a := c) (b := 0) (by omega) (by omega)).mpr hb2518
    refine xw_goto (pc := 2533) 3272 dL_law_2533 rfl ?_
    refine xw_pick (pc := 3272) (l' := [(0, _), (1, _), (2, _), (3, _), (4, _), (5, _)]) [2, 3, 4, 5, 6, 7] rfl ?_
    exact k _ _ hJ2 hsz
  · replace hb2518 : c = 0 := (nI_eq (a := c) (b := 0) (by omega) (by omega)).mp hb2518
    refine xw_aload_n (pc := 2521) dL_law_2521 5 rfl ?_
    refine xw_iconst (v := nI 0) (pc := 2522) dL_law_2522 rfl ?_
    have wE : xw (xWith g3 m T) out 0 = _ := (F4.w' (xlt (by rw [ho1.1]; decide)) (by rw [ho1.2.1]; unfold o313; omega)).trans (w1 hb2518)
    refine xw_lald (k := 0) (pc := 2523) dL_law_2523 (by simp [-List.getD_eq_getElem?_getD, xE_setI, xsz_setI, xsl_setI, xtag_setI, xown_setI, xlen_setI, xE_setR, xsz_setR, xsl_setR, xtag_setR, xown_setR, xlen_setR, xE_setW, xsz_setW, xsl_setW, xtag_setW, xown_setW, xlen_setW, xi_setR, xi_setW, xr_setI, xr_setW, xww_setI, xww_setR, xi_setI, xr_setR, xww_setW, xE_new, xsz_new, xsl_new, hx, c1, tw1, t2o, t2D]) rfl (by rw [hJ2.2.2.1.2.2]; decide) ?_
    rw [wE]
    refine xw_iload (pc := 2524) dL_law_2524 0 rfl ?_
    refine xw_i2l (pc := 2526) dL_law_2526 ?_
    refine xw_lcmp (pc := 2527) dL_law_2527 rfl ?_
    refine xw_if_eq (pc := 2528) 2533 dL_law_2528 rfl (fun hb2528 => ?_) (fun hb2528 => ?_)
    rotate_left
    · exfalso
      exact hb2528 lg_s
    refine xw_goto (pc := 2533) 3272 dL_law_2533 rfl ?_
    refine xw_pick (pc := 3272) (l' := [(0, _), (1, _), (2, _), (3, _), (4, _), (5, _)]) [2, 3, 4, 5, 6, 7] rfl ?_
    exact k _ _ hJ2 hsz
theorem LC_copyRow {d : Nat} {x m out outD sc len : Nat} {scr : Nat → Int32} {h : xG} {S : xMS} {i : Nat} (hJ : xJ x m out outD sc len scr h S) (hi : i + 6 ≤ len) (hl : len ≤ 144) {Q : Option Value ⊕ Nat → xG → Prop} (k : ∀ h' S', xJ x m out outD sc len scr h' S' → xsz h' + xsl h' ≤ xsz h + xsl h + 46100 → XW M_L_law (d + 92) 3272 [(0, .ref sc), (1, .ref x), (2, .ref m), (3, .ref out), (4, .ref outD), (5, .int (nI i))] [] h' Q) : XW M_L_law (d + 92) 2536 [(0, .ref sc), (1, .ref x), (2, .ref m), (3, .ref out), (4, .ref outD), (5, .int (nI i))] [] h Q := by
  obtain ⟨p_, lk_, fa_, ka_, la_, Z_, n_, rr_, ww_, dq_, da_, hh_, ps_, sv_, hp_⟩ := hJ.1.1.p
  have hx : xtag h x = 1 := hp_.M.tx
  have c1 := hJ.2.2.2.2.1
  have c3 := hJ.2.2.2.2.2.2.1
  have c4 := hJ.2.2.2.2.2.2.2
  have oo := hJ.2.2.1
  have oD := hJ.2.2.2.1
  obtain ⟨c, b, S', hc, hP, hR, hW⟩ := W_copyRow (out := out) hJ.1.1 hJ.1.2 hx oo (p0 := scr (i + 1)) (p1 := scr (i + 2)) (p2 := scr (i + 3))
  refine xw_aload_n (pc := 2536) dL_law_2536 1 rfl ?_
  refine xw_aload_n (pc := 2537) dL_law_2537 0 rfl ?_
  refine xw_iload (pc := 2538) dL_law_2538 5 rfl ?_
  refine xw_iconst (v := nI 1) (pc := 2540) dL_law_2540 rfl ?_
  refine xn_iadd (pc := 2541) dL_law_2541 ?_
  refine xw_iald (k := (i + 1)) (pc := 2542) dL_law_2542 (by simp [-List.getD_eq_getElem?_getD, xE_setI, xsz_setI, xsl_setI, xtag_setI, xown_setI, xlen_setI, xE_setR, xsz_setR, xsl_setR, xtag_setR, xown_setR, xlen_setR, xE_setW, xsz_setW, xsl_setW, xtag_setW, xown_setW, xlen_setW, xi_setR, xi_setW, xr_setI, xr_setW, xww_setI, xww_setR, xi_setI, xr_setR, xww_setW, xE_new, xsz_new, xsl_new, hx, c1]) rfl (by rw [c3]; omega) ?_
  rw [c4 (i + 1) (by omega)]
  refine xw_aload_n (pc := 2543) dL_law_2543 0 rfl ?_
  refine xw_iload (pc := 2544) dL_law_2544 5 rfl ?_
  refine xw_iconst (v := nI 2) (pc := 2546) dL_law_2546 rfl ?_
  refine xn_iadd (pc := 2547) dL_law_2547 ?_
  refine xw_iald (k := (i + 2)) (pc := 2548) dL_law_2548 (by simp [-List.getD_eq_getElem?_getD, xE_setI, xsz_setI, xsl_setI, xtag_setI, xown_setI, xlen_setI, xE_setR, xsz_setR, xsl_setR, xtag_setR, xown_setR, xlen_setR, xE_setW, xsz_setW, xsl_setW, xtag_setW, xown_setW, xlen_setW, xi_setR, xi_setW, xr_setI, xr_setW, xww_setI, xww_setR, xi_setI, xr_setR, xww_setW, xE_new, xsz_new, xsl_new, hx, c1]) rfl (by rw [c3]; omega) ?_
  rw [c4 (i + 2) (by omega)]
  refine xw_aload_n (pc := 2549) dL_law_2549 0 rfl ?_
  refine xw_iload (pc := 2550) dL_law_2550 5 rfl ?_
  refine xw_iconst (v := nI 3) (pc := 2552) dL_law_2552 rfl ?_
  refine xn_iadd (pc := 2553) dL_law_2553 ?_
  refine xw_iald (k := (i + 3)) (pc := 2554) dL_law_2554 (by simp [-List.getD_eq_getElem?_getD, xE_setI, xsz_setI, xsl_setI, xtag_setI, xown_setI, xlen_setI, xE_setR, xsz_setR, xsl_setR, xtag_setR, xown_setR, xlen_setR, xE_setW, xsz_setW, xsl_setW, xtag_setW, xown_setW, xlen_setW, xi_setR, xi_setW, xr_setI, xr_setW, xww_setI, xww_setR, xi_setI, xr_setR, xww_setW, xE_new, xsz_new, xsl_new, hx, c1]) rfl (by rw [c3]; omega) ?_
  rw [c4 (i + 3) (by omega)]
  refine xw_aload_n (pc := 2555) dL_law_2555 3 rfl ?_
  refine xw_callF (pc := 2556) (xr_SX (as := [_, _, _, _, _]) ok_X0_copyRow rfl (by decide) q1757 q1758 dL_law_2556 rfl rfl (Nat.le_of_ble_eq_true rfl)) (hW d) ?_
  intro g1 hc1 hm1
  obtain ⟨st1, F1, w1⟩ := hc1
  refine xw_istore (l' := [(6, _), (0, _), (1, _), (2, _), (3, _), (4, _), (5, _)]) (pc := 2559) dL_law_2559 (by decide) rfl ?_
  obtain ⟨hK1, ⟨hM1, h31, he1⟩, ho1, hoD1, hs1⟩ := hJ.mid st1 F1 (by unfold oW; omega) (by unfold oW; omega)
  have tw1 : xtag (xWith g1 m S) sc = 101 := (he1.ti.1 sc).trans hs1.1
  have lw1 : xlen (xWith g1 m S) sc = len := (he1.ti.2.1 sc).trans hs1.2.2.1
  have iw1 : ∀ j, j < len → xi (xWith g1 m S) sc j = scr j := fun j hj => (he1.ti.2.2 sc j).trans (hs1.2.2.2 j hj)
  refine XW.eqv he1.symm ?_
  refine xw_aload_n (pc := 2561) dL_law_2561 3 rfl ?_
  refine xw_aload_n (pc := 2562) dL_law_2562 1 rfl ?_
  refine xw_iload (pc := 2563) dL_law_2563 6 rfl ?_
  refine xw_iconst (v := nI 1) (pc := 2565) dL_law_2565 rfl ?_
  refine xn_iadd (pc := 2566) dL_law_2566 ?_
  refine xw_iald (k := (i + 1)) (pc := 2567) dL_law_2567 (by simp [-List.getD_eq_getElem?_getD, xE_setI, xsz_setI, xsl_setI, xtag_setI, xown_setI, xlen_setI, xE_setR, xsz_setR, xsl_setR, xtag_setR, xown_setR, xlen_setR, xE_setW, xsz_setW, xsl_setW, xtag_setW, xown_setW, xlen_setW, xi_setR, xi_setW, xr_setI, xr_setW, xww_setI, xww_setR, xi_setI, xr_setR, xww_setW, xE_new, xsz_new, xsl_new, hx, c1, tw1]) rfl (by rw [lw1]; omega) ?_
  rw [iw1 (i + 1) (by omega)]
  refine xw_aload_n (pc := 2568) dL_law_2568 1 rfl ?_
  refine xw_iload (pc := 2569) dL_law_2569 6 rfl ?_
  refine xw_iconst (v := nI 2) (pc := 2571) dL_law_2571 rfl ?_
  refine xn_iadd (pc := 2572) dL_law_2572 ?_
  refine xw_iald (k := (i + 2)) (pc := 2573) dL_law_2573 (by simp [-List.getD_eq_getElem?_getD, xE_setI, xsz_setI, xsl_setI, xtag_setI, xown_setI, xlen_setI, xE_setR, xsz_setR, xsl_setR, xtag_setR, xown_setR, xlen_setR, xE_setW, xsz_setW, xsl_setW, xtag_setW, xown_setW, xlen_setW, xi_setR, xi_setW, xr_setI, xr_setW, xww_setI, xww_setR, xi_setI, xr_setR, xww_setW, xE_new, xsz_new, xsl_new, hx, c1, tw1]) rfl (by rw [lw1]; omega) ?_
  rw [iw1 (i + 2) (by omega)]
  refine xw_aload_n (pc := 2574) dL_law_2574 1 rfl ?_
  refine xw_iload (pc := 2575) dL_law_2575 6 rfl ?_
  refine xw_iconst (v := nI 3) (pc := 2577) dL_law_2577 rfl ?_
  refine xn_iadd (pc := 2578) dL_law_2578 ?_
  refine xw_iald (k := (i + 3)) (pc := 2579) dL_law_2579 (by simp [-List.getD_eq_getElem?_getD, xE_setI, xsz_setI, xsl_setI, xtag_setI, xown_setI, xlen_setI, xE_setR, xsz_setR, xsl_setR, xtag_setR, xown_setR, xlen_setR, xE_setW, xsz_setW, xsl_setW, xtag_setW, xown_setW, xlen_setW, xi_setR, xi_setW, xr_setI, xr_setW, xww_setI, xww_setR, xi_setI, xr_setR, xww_setW, xE_new, xsz_new, xsl_new, hx, c1, tw1]) rfl (by rw [lw1]; omega) ?_
  rw [iw1 (i + 3) (by omega)]
  refine xw_callF (pc := 2580) (xr_V (as := [_, _, _]) ok_X6_copyRow rfl (by decide) q2652 q2653 q2654 (by rw [xtag_with]; first | (rw [hM1.1]; rfl) | (rw [hM3.1]; rfl)) (by rw [xtag_with]; first | (rw [hM1.1]; rfl) | (rw [hM3.1]; rfl)) dL_law_2580 rfl rfl (Nat.le_of_ble_eq_true rfl)) (jR.val (hR (d + 1) g1 m hM1 h31 hK1)) ?_
  intro g2 hc2 hm2
  obtain ⟨g3, T, e3, ag, c6, hM3, h33, F3⟩ := hc2
  subst e3
  obtain ⟨hJ2, F4⟩ := xJ.done st1 hK1 ho1 hoD1 hs1 ag hM3 h33 F3
  have hsz : xsz (xWith g3 m T) + xsl (xWith g3 m T) ≤ xsz h + xsl h + 46100 := by
    have := F1.2.2.2.1
    have := F4.2.2.2.1
    omega
  have t2o := hJ2.2.2.1.1
  have t2D := hJ2.2.2.2.1.1
  refine xw_istore (l' := [(7, _), (6, _), (0, _), (1, _), (2, _), (3, _), (4, _), (5, _)]) (pc := 2583) dL_law_2583 (by decide) rfl ?_
  refine xw_aload_n (pc := 2585) dL_law_2585 4 rfl ?_
  refine xw_callV (pc := 2586) (xr_V (as := []) ok_X6_thrown rfl (by decide) q2352 q2353 q2354 (by rw [xtag_with]; first | (rw [hM1.1]; rfl) | (rw [hM3.1]; rfl)) (by rw [xtag_with]; first | (rw [hM1.1]; rfl) | (rw [hM3.1]; rfl)) dL_law_2586 rfl rfl (Nat.le_of_ble_eq_true rfl)) (by have z := SP_X6_thrown (d := d + 91) (S := T) hM3; rw [c6] at z; exact z) ?_
  refine xw_iload (pc := 2589) dL_law_2589 1 rfl ?_
  refine xw_icmp_eq (pc := 2591) 2596 dL_law_2591 rfl (fun hb2591 => ?_) (fun hb2591 => ?_)
  rotate_left
  · exfalso
    replace hb2591 : ¬ (c = c) := mt (nI_eq (a := c) (b := c) (by omega) (by omega)).mpr hb2591
    omega
  replace hb2591 : c = c := (nI_eq (a := c) (b := c) (by omega) (by omega)).mp hb2591
  refine xw_iload (pc := 2596) dL_law_2596 1 rfl ?_
  refine xw_if_ne (pc := 2598) 2613 dL_law_2598 rfl (fun hb2598 => ?_) (fun hb2598 => ?_)
  · replace hb2598 : ¬ (c = 0) := mt (nI_eq (a := c) (b := 0) (by omega) (by omega)).mpr hb2598
    refine xw_goto (pc := 2613) 3272 dL_law_2613 rfl ?_
    refine xw_pick (pc := 3272) (l' := [(0, _), (1, _), (2, _), (3, _), (4, _), (5, _)]) [2, 3, 4, 5, 6, 7] rfl ?_
    exact k _ _ hJ2 hsz
  · replace hb2598 : c = 0 := (nI_eq (a := c) (b := 0) (by omega) (by omega)).mp hb2598
    refine xw_aload_n (pc := 2601) dL_law_2601 5 rfl ?_
    refine xw_iconst (v := nI 0) (pc := 2602) dL_law_2602 rfl ?_
    have wE : xw (xWith g3 m T) out 0 = _ := (F4.w' (xlt (by rw [ho1.1]; decide)) (by rw [ho1.2.1]; unfold o313; omega)).trans (w1 hb2598)
    refine xw_lald (k := 0) (pc := 2603) dL_law_2603 (by simp [-List.getD_eq_getElem?_getD, xE_setI, xsz_setI, xsl_setI, xtag_setI, xown_setI, xlen_setI, xE_setR, xsz_setR, xsl_setR, xtag_setR, xown_setR, xlen_setR, xE_setW, xsz_setW, xsl_setW, xtag_setW, xown_setW, xlen_setW, xi_setR, xi_setW, xr_setI, xr_setW, xww_setI, xww_setR, xi_setI, xr_setR, xww_setW, xE_new, xsz_new, xsl_new, hx, c1, tw1, t2o, t2D]) rfl (by rw [hJ2.2.2.1.2.2]; decide) ?_
    rw [wE]
    refine xw_iload (pc := 2604) dL_law_2604 0 rfl ?_
    refine xw_i2l (pc := 2606) dL_law_2606 ?_
    refine xw_lcmp (pc := 2607) dL_law_2607 rfl ?_
    refine xw_if_eq (pc := 2608) 2613 dL_law_2608 rfl (fun hb2608 => ?_) (fun hb2608 => ?_)
    rotate_left
    · exfalso
      exact hb2608 lg_s
    refine xw_goto (pc := 2613) 3272 dL_law_2613 rfl ?_
    refine xw_pick (pc := 3272) (l' := [(0, _), (1, _), (2, _), (3, _), (4, _), (5, _)]) [2, 3, 4, 5, 6, 7] rfl ?_
    exact k _ _ hJ2 hsz
theorem LC_element {d : Nat} {x m out outD sc len : Nat} {scr : Nat → Int32} {h : xG} {S : xMS} {i : Nat} (hJ : xJ x m out outD sc len scr h S) (hi : i + 6 ≤ len) (hl : len ≤ 144) {Q : Option Value ⊕ Nat → xG → Prop} (k : ∀ h' S', xJ x m out outD sc len scr h' S' → xsz h' + xsl h' ≤ xsz h + xsl h + 46100 → XW M_L_law (d + 92) 3272 [(0, .ref sc), (1, .ref x), (2, .ref m), (3, .ref out), (4, .ref outD), (5, .int (nI i))] [] h' Q) : XW M_L_law (d + 92) 2616 [(0, .ref sc), (1, .ref x), (2, .ref m), (3, .ref out), (4, .ref outD), (5, .int (nI i))] [] h Q := by
  obtain ⟨p_, lk_, fa_, ka_, la_, Z_, n_, rr_, ww_, dq_, da_, hh_, ps_, sv_, hp_⟩ := hJ.1.1.p
  have hx : xtag h x = 1 := hp_.M.tx
  have c1 := hJ.2.2.2.2.1
  have c3 := hJ.2.2.2.2.2.2.1
  have c4 := hJ.2.2.2.2.2.2.2
  have oo := hJ.2.2.1
  have oD := hJ.2.2.2.1
  obtain ⟨c, b, S', hc, hP, hR, hW⟩ := W_element (out := out) hJ.1.1 hJ.1.2 hx oo (p0 := scr (i + 1)) (p1 := scr (i + 2))
  refine xw_aload_n (pc := 2616) dL_law_2616 1 rfl ?_
  refine xw_aload_n (pc := 2617) dL_law_2617 0 rfl ?_
  refine xw_iload (pc := 2618) dL_law_2618 5 rfl ?_
  refine xw_iconst (v := nI 1) (pc := 2620) dL_law_2620 rfl ?_
  refine xn_iadd (pc := 2621) dL_law_2621 ?_
  refine xw_iald (k := (i + 1)) (pc := 2622) dL_law_2622 (by simp [-List.getD_eq_getElem?_getD, xE_setI, xsz_setI, xsl_setI, xtag_setI, xown_setI, xlen_setI, xE_setR, xsz_setR, xsl_setR, xtag_setR, xown_setR, xlen_setR, xE_setW, xsz_setW, xsl_setW, xtag_setW, xown_setW, xlen_setW, xi_setR, xi_setW, xr_setI, xr_setW, xww_setI, xww_setR, xi_setI, xr_setR, xww_setW, xE_new, xsz_new, xsl_new, hx, c1]) rfl (by rw [c3]; omega) ?_
  rw [c4 (i + 1) (by omega)]
  refine xw_aload_n (pc := 2623) dL_law_2623 0 rfl ?_
  refine xw_iload (pc := 2624) dL_law_2624 5 rfl ?_
  refine xw_iconst (v := nI 2) (pc := 2626) dL_law_2626 rfl ?_
  refine xn_iadd (pc := 2627) dL_law_2627 ?_
  refine xw_iald (k := (i + 2)) (pc := 2628) dL_law_2628 (by simp [-List.getD_eq_getElem?_getD, xE_setI, xsz_setI, xsl_setI, xtag_setI, xown_setI, xlen_setI, xE_setR, xsz_setR, xsl_setR, xtag_setR, xown_setR, xlen_setR, xE_setW, xsz_setW, xsl_setW, xtag_setW, xown_setW, xlen_setW, xi_setR, xi_setW, xr_setI, xr_setW, xww_setI, xww_setR, xi_setI, xr_setR, xww_setW, xE_new, xsz_new, xsl_new, hx, c1]) rfl (by rw [c3]; omega) ?_
  rw [c4 (i + 2) (by omega)]
  refine xw_aload_n (pc := 2629) dL_law_2629 3 rfl ?_
  refine xw_callF (pc := 2630) (xr_SX (as := [_, _, _, _]) ok_X0_element rfl (by decide) q1777 q1778 dL_law_2630 rfl rfl (Nat.le_of_ble_eq_true rfl)) (hW d) ?_
  intro g1 hc1 hm1
  obtain ⟨st1, F1, w1⟩ := hc1
  refine xw_istore (l' := [(6, _), (0, _), (1, _), (2, _), (3, _), (4, _), (5, _)]) (pc := 2633) dL_law_2633 (by decide) rfl ?_
  obtain ⟨hK1, ⟨hM1, h31, he1⟩, ho1, hoD1, hs1⟩ := hJ.mid st1 F1 (by unfold oW; omega) (by unfold oW; omega)
  have tw1 : xtag (xWith g1 m S) sc = 101 := (he1.ti.1 sc).trans hs1.1
  have lw1 : xlen (xWith g1 m S) sc = len := (he1.ti.2.1 sc).trans hs1.2.2.1
  have iw1 : ∀ j, j < len → xi (xWith g1 m S) sc j = scr j := fun j hj => (he1.ti.2.2 sc j).trans (hs1.2.2.2 j hj)
  refine XW.eqv he1.symm ?_
  refine xw_aload_n (pc := 2635) dL_law_2635 3 rfl ?_
  refine xw_aload_n (pc := 2636) dL_law_2636 1 rfl ?_
  refine xw_iload (pc := 2637) dL_law_2637 6 rfl ?_
  refine xw_iconst (v := nI 1) (pc := 2639) dL_law_2639 rfl ?_
  refine xn_iadd (pc := 2640) dL_law_2640 ?_
  refine xw_iald (k := (i + 1)) (pc := 2641) dL_law_2641 (by simp [-List.getD_eq_getElem?_getD, xE_setI, xsz_setI, xsl_setI, xtag_setI, xown_setI, xlen_setI, xE_setR, xsz_setR, xsl_setR, xtag_setR, xown_setR, xlen_setR, xE_setW, xsz_setW, xsl_setW, xtag_setW, xown_setW, xlen_setW, xi_setR, xi_setW, xr_setI, xr_setW, xww_setI, xww_setR, xi_setI, xr_setR, xww_setW, xE_new, xsz_new, xsl_new, hx, c1, tw1]) rfl (by rw [lw1]; omega) ?_
  rw [iw1 (i + 1) (by omega)]
  refine xw_aload_n (pc := 2642) dL_law_2642 1 rfl ?_
  refine xw_iload (pc := 2643) dL_law_2643 6 rfl ?_
  refine xw_iconst (v := nI 2) (pc := 2645) dL_law_2645 rfl ?_
  refine xn_iadd (pc := 2646) dL_law_2646 ?_
  refine xw_iald (k := (i + 2)) (pc := 2647) dL_law_2647 (by simp [-List.getD_eq_getElem?_getD, xE_setI, xsz_setI, xsl_setI, xtag_setI, xown_setI, xlen_setI, xE_setR, xsz_setR, xsl_setR, xtag_setR, xown_setR, xlen_setR, xE_setW, xsz_setW, xsl_setW, xtag_setW, xown_setW, xlen_setW, xi_setR, xi_setW, xr_setI, xr_setW, xww_setI, xww_setR, xi_setI, xr_setR, xww_setW, xE_new, xsz_new, xsl_new, hx, c1, tw1]) rfl (by rw [lw1]; omega) ?_
  rw [iw1 (i + 2) (by omega)]
  refine xw_callF (pc := 2648) (xr_V (as := [_, _]) ok_X6_element rfl (by decide) q2658 q2659 q2660 (by rw [xtag_with]; first | (rw [hM1.1]; rfl) | (rw [hM3.1]; rfl)) (by rw [xtag_with]; first | (rw [hM1.1]; rfl) | (rw [hM3.1]; rfl)) dL_law_2648 rfl rfl (Nat.le_of_ble_eq_true rfl)) (jR.val (hR (d + 1) g1 m hM1 h31 hK1)) ?_
  intro g2 hc2 hm2
  obtain ⟨g3, T, e3, ag, c6, hM3, h33, F3⟩ := hc2
  subst e3
  obtain ⟨hJ2, F4⟩ := xJ.done st1 hK1 ho1 hoD1 hs1 ag hM3 h33 F3
  have hsz : xsz (xWith g3 m T) + xsl (xWith g3 m T) ≤ xsz h + xsl h + 46100 := by
    have := F1.2.2.2.1
    have := F4.2.2.2.1
    omega
  have t2o := hJ2.2.2.1.1
  have t2D := hJ2.2.2.2.1.1
  refine xw_istore (l' := [(7, _), (6, _), (0, _), (1, _), (2, _), (3, _), (4, _), (5, _)]) (pc := 2651) dL_law_2651 (by decide) rfl ?_
  refine xw_aload_n (pc := 2653) dL_law_2653 4 rfl ?_
  refine xw_callV (pc := 2654) (xr_V (as := []) ok_X6_thrown rfl (by decide) q2352 q2353 q2354 (by rw [xtag_with]; first | (rw [hM1.1]; rfl) | (rw [hM3.1]; rfl)) (by rw [xtag_with]; first | (rw [hM1.1]; rfl) | (rw [hM3.1]; rfl)) dL_law_2654 rfl rfl (Nat.le_of_ble_eq_true rfl)) (by have z := SP_X6_thrown (d := d + 91) (S := T) hM3; rw [c6] at z; exact z) ?_
  refine xw_iload (pc := 2657) dL_law_2657 1 rfl ?_
  refine xw_icmp_eq (pc := 2659) 2664 dL_law_2659 rfl (fun hb2659 => ?_) (fun hb2659 => ?_)
  rotate_left
  · exfalso
    replace hb2659 : ¬ (c = c) := mt (nI_eq (a := c) (b := c) (by omega) (by omega)).mpr hb2659
    omega
  replace hb2659 : c = c := (nI_eq (a := c) (b := c) (by omega) (by omega)).mp hb2659
  refine xw_iload (pc := 2664) dL_law_2664 1 rfl ?_
  refine xw_if_ne (pc := 2666) 2681 dL_law_2666 rfl (fun hb2666 => ?_) (fun hb2666 => ?_)
  · replace hb2666 : ¬ (c = 0) := mt (nI_eq (a := c) (b := 0) (by omega) (by omega)).mpr hb2666
    refine xw_goto (pc := 2681) 3272 dL_law_2681 rfl ?_
    refine xw_pick (pc := 3272) (l' := [(0, _), (1, _), (2, _), (3, _), (4, _), (5, _)]) [2, 3, 4, 5, 6, 7] rfl ?_
    exact k _ _ hJ2 hsz
  · replace hb2666 : c = 0 := (nI_eq (a := c) (b := 0) (by omega) (by omega)).mp hb2666
    refine xw_aload_n (pc := 2669) dL_law_2669 5 rfl ?_
    refine xw_iconst (v := nI 0) (pc := 2670) dL_law_2670 rfl ?_
    have wE : xw (xWith g3 m T) out 0 = _ := (F4.w' (xlt (by rw [ho1.1]; decide)) (by rw [ho1.2.1]; unfold o313; omega)).trans (w1 hb2666)
    refine xw_lald (k := 0) (pc := 2671) dL_law_2671 (by simp [-List.getD_eq_getElem?_getD, xE_setI, xsz_setI, xsl_setI, xtag_setI, xown_setI, xlen_setI, xE_setR, xsz_setR, xsl_setR, xtag_setR, xown_setR, xlen_setR, xE_setW, xsz_setW, xsl_setW, xtag_setW, xown_setW, xlen_setW, xi_setR, xi_setW, xr_setI, xr_setW, xww_setI, xww_setR, xi_setI, xr_setR, xww_setW, xE_new, xsz_new, xsl_new, hx, c1, tw1, t2o, t2D]) rfl (by rw [hJ2.2.2.1.2.2]; decide) ?_
    rw [wE]
    refine xw_iload (pc := 2672) dL_law_2672 0 rfl ?_
    refine xw_i2l (pc := 2674) dL_law_2674 ?_
    refine xw_lcmp (pc := 2675) dL_law_2675 rfl ?_
    refine xw_if_eq (pc := 2676) 2681 dL_law_2676 rfl (fun hb2676 => ?_) (fun hb2676 => ?_)
    rotate_left
    · exfalso
      exact hb2676 lg_s
    refine xw_goto (pc := 2681) 3272 dL_law_2681 rfl ?_
    refine xw_pick (pc := 3272) (l' := [(0, _), (1, _), (2, _), (3, _), (4, _), (5, _)]) [2, 3, 4, 5, 6, 7] rfl ?_
    exact k _ _ hJ2 hsz
theorem LC_total {d : Nat} {x m out outD sc len : Nat} {scr : Nat → Int32} {h : xG} {S : xMS} {i : Nat} (hJ : xJ x m out outD sc len scr h S) (hi : i + 6 ≤ len) (hl : len ≤ 144) {Q : Option Value ⊕ Nat → xG → Prop} (k : ∀ h' S', xJ x m out outD sc len scr h' S' → xsz h' + xsl h' ≤ xsz h + xsl h + 46100 → XW M_L_law (d + 92) 3272 [(0, .ref sc), (1, .ref x), (2, .ref m), (3, .ref out), (4, .ref outD), (5, .int (nI i))] [] h' Q) : XW M_L_law (d + 92) 2684 [(0, .ref sc), (1, .ref x), (2, .ref m), (3, .ref out), (4, .ref outD), (5, .int (nI i))] [] h Q := by
  obtain ⟨p_, lk_, fa_, ka_, la_, Z_, n_, rr_, ww_, dq_, da_, hh_, ps_, sv_, hp_⟩ := hJ.1.1.p
  have hx : xtag h x = 1 := hp_.M.tx
  have c1 := hJ.2.2.2.2.1
  have c3 := hJ.2.2.2.2.2.2.1
  have c4 := hJ.2.2.2.2.2.2.2
  have oo := hJ.2.2.1
  have oD := hJ.2.2.2.1
  obtain ⟨c, b, S', hc, hP, hR, hW⟩ := W_total (out := outD) hJ.1.1 hJ.1.2 hx oD (p0 := scr (i + 1))
  refine xw_aload_n (pc := 2684) dL_law_2684 1 rfl ?_
  refine xw_aload_n (pc := 2685) dL_law_2685 0 rfl ?_
  refine xw_iload (pc := 2686) dL_law_2686 5 rfl ?_
  refine xw_iconst (v := nI 1) (pc := 2688) dL_law_2688 rfl ?_
  refine xn_iadd (pc := 2689) dL_law_2689 ?_
  refine xw_iald (k := (i + 1)) (pc := 2690) dL_law_2690 (by simp [-List.getD_eq_getElem?_getD, xE_setI, xsz_setI, xsl_setI, xtag_setI, xown_setI, xlen_setI, xE_setR, xsz_setR, xsl_setR, xtag_setR, xown_setR, xlen_setR, xE_setW, xsz_setW, xsl_setW, xtag_setW, xown_setW, xlen_setW, xi_setR, xi_setW, xr_setI, xr_setW, xww_setI, xww_setR, xi_setI, xr_setR, xww_setW, xE_new, xsz_new, xsl_new, hx, c1]) rfl (by rw [c3]; omega) ?_
  rw [c4 (i + 1) (by omega)]
  refine xw_aload (pc := 2691) dL_law_2691 4 rfl ?_
  refine xw_callF (pc := 2693) (xr_SX (as := [_, _, _]) ok_X0_total rfl (by decide) q1794 q1795 dL_law_2693 rfl rfl (Nat.le_of_ble_eq_true rfl)) (hW d) ?_
  intro g1 hc1 hm1
  obtain ⟨st1, F1, w1⟩ := hc1
  refine xw_istore (l' := [(6, _), (0, _), (1, _), (2, _), (3, _), (4, _), (5, _)]) (pc := 2696) dL_law_2696 (by decide) rfl ?_
  obtain ⟨hK1, ⟨hM1, h31, he1⟩, ho1, hoD1, hs1⟩ := hJ.mid st1 F1 (by unfold oW; omega) (by unfold oW; omega)
  have tw1 : xtag (xWith g1 m S) sc = 101 := (he1.ti.1 sc).trans hs1.1
  have lw1 : xlen (xWith g1 m S) sc = len := (he1.ti.2.1 sc).trans hs1.2.2.1
  have iw1 : ∀ j, j < len → xi (xWith g1 m S) sc j = scr j := fun j hj => (he1.ti.2.2 sc j).trans (hs1.2.2.2 j hj)
  refine XW.eqv he1.symm ?_
  refine xw_aload_n (pc := 2698) dL_law_2698 3 rfl ?_
  refine xw_aload_n (pc := 2699) dL_law_2699 1 rfl ?_
  refine xw_iload (pc := 2700) dL_law_2700 6 rfl ?_
  refine xw_iconst (v := nI 1) (pc := 2702) dL_law_2702 rfl ?_
  refine xn_iadd (pc := 2703) dL_law_2703 ?_
  refine xw_iald (k := (i + 1)) (pc := 2704) dL_law_2704 (by simp [-List.getD_eq_getElem?_getD, xE_setI, xsz_setI, xsl_setI, xtag_setI, xown_setI, xlen_setI, xE_setR, xsz_setR, xsl_setR, xtag_setR, xown_setR, xlen_setR, xE_setW, xsz_setW, xsl_setW, xtag_setW, xown_setW, xlen_setW, xi_setR, xi_setW, xr_setI, xr_setW, xww_setI, xww_setR, xi_setI, xr_setR, xww_setW, xE_new, xsz_new, xsl_new, hx, c1, tw1]) rfl (by rw [lw1]; omega) ?_
  rw [iw1 (i + 1) (by omega)]
  refine xw_callF (pc := 2705) (xr_V (as := [_]) ok_X6_total rfl (by decide) q2663 q2664 q2665 (by rw [xtag_with]; first | (rw [hM1.1]; rfl) | (rw [hM3.1]; rfl)) (by rw [xtag_with]; first | (rw [hM1.1]; rfl) | (rw [hM3.1]; rfl)) dL_law_2705 rfl rfl (Nat.le_of_ble_eq_true rfl)) (jR.val (hR (d + 1) g1 m hM1 h31 hK1)) ?_
  intro g2 hc2 hm2
  obtain ⟨g3, T, e3, ag, c6, hM3, h33, F3⟩ := hc2
  subst e3
  obtain ⟨hJ2, F4⟩ := xJ.done st1 hK1 ho1 hoD1 hs1 ag hM3 h33 F3
  have hsz : xsz (xWith g3 m T) + xsl (xWith g3 m T) ≤ xsz h + xsl h + 46100 := by
    have := F1.2.2.2.1
    have := F4.2.2.2.1
    omega
  have t2o := hJ2.2.2.1.1
  have t2D := hJ2.2.2.2.1.1
  refine xw_dstore (l' := [(7, _), (6, _), (0, _), (1, _), (2, _), (3, _), (4, _), (5, _)]) (pc := 2708) dL_law_2708 (by decide) rfl ?_
  refine xw_aload_n (pc := 2710) dL_law_2710 4 rfl ?_
  refine xw_callV (pc := 2711) (xr_V (as := []) ok_X6_thrown rfl (by decide) q2352 q2353 q2354 (by rw [xtag_with]; first | (rw [hM1.1]; rfl) | (rw [hM3.1]; rfl)) (by rw [xtag_with]; first | (rw [hM1.1]; rfl) | (rw [hM3.1]; rfl)) dL_law_2711 rfl rfl (Nat.le_of_ble_eq_true rfl)) (by have z := SP_X6_thrown (d := d + 91) (S := T) hM3; rw [c6] at z; exact z) ?_
  refine xw_iload (pc := 2714) dL_law_2714 1 rfl ?_
  refine xw_icmp_eq (pc := 2716) 2721 dL_law_2716 rfl (fun hb2716 => ?_) (fun hb2716 => ?_)
  rotate_left
  · exfalso
    replace hb2716 : ¬ (c = c) := mt (nI_eq (a := c) (b := c) (by omega) (by omega)).mpr hb2716
    omega
  replace hb2716 : c = c := (nI_eq (a := c) (b := c) (by omega) (by omega)).mp hb2716
  refine xw_iload (pc := 2721) dL_law_2721 1 rfl ?_
  refine xw_if_ne (pc := 2723) 2758 dL_law_2723 rfl (fun hb2723 => ?_) (fun hb2723 => ?_)
  · replace hb2723 : ¬ (c = 0) := mt (nI_eq (a := c) (b := 0) (by omega) (by omega)).mpr hb2723
    refine xw_goto (pc := 2758) 3272 dL_law_2758 rfl ?_
    refine xw_pick (pc := 3272) (l' := [(0, _), (1, _), (2, _), (3, _), (4, _), (5, _)]) [2, 3, 4, 5, 6, 7] rfl ?_
    exact k _ _ hJ2 hsz
  · replace hb2723 : c = 0 := (nI_eq (a := c) (b := 0) (by omega) (by omega)).mp hb2723
    refine xw_aload (pc := 2726) dL_law_2726 6 rfl ?_
    refine xw_iconst (v := nI 0) (pc := 2728) dL_law_2728 rfl ?_
    have wE : xw (xWith g3 m T) outD 0 = _ := (F4.w' (xlt (by rw [hoD1.1]; decide)) (by rw [hoD1.2.1]; unfold o313; omega)).trans (w1 hb2723)
    refine xw_dald (k := 0) (pc := 2729) dL_law_2729 (by simp [-List.getD_eq_getElem?_getD, xE_setI, xsz_setI, xsl_setI, xtag_setI, xown_setI, xlen_setI, xE_setR, xsz_setR, xsl_setR, xtag_setR, xown_setR, xlen_setR, xE_setW, xsz_setW, xsl_setW, xtag_setW, xown_setW, xlen_setW, xi_setR, xi_setW, xr_setI, xr_setW, xww_setI, xww_setR, xi_setI, xr_setR, xww_setW, xE_new, xsz_new, xsl_new, hx, c1, tw1, t2o, t2D]) rfl (by rw [hJ2.2.2.2.1.2.2]; decide) ?_
    rw [wE]
    refine xw_dload (pc := 2730) dL_law_2730 0 rfl ?_
    refine xw_dcmp (pc := 2732) dL_law_2732 ?_
    refine xw_if_eq (pc := 2733) 2758 dL_law_2733 rfl (fun hb2733 => ?_) (fun hb2733 => ?_)
    · refine xw_goto (pc := 2758) 3272 dL_law_2758 rfl ?_
      refine xw_pick (pc := 3272) (l' := [(0, _), (1, _), (2, _), (3, _), (4, _), (5, _)]) [2, 3, 4, 5, 6, 7] rfl ?_
      exact k _ _ hJ2 hsz
    · refine xw_aload (pc := 2736) dL_law_2736 6 rfl ?_
      refine xw_iconst (v := nI 0) (pc := 2738) dL_law_2738 rfl ?_
      refine xw_dald (k := 0) (pc := 2739) dL_law_2739 (by simp [-List.getD_eq_getElem?_getD, xE_setI, xsz_setI, xsl_setI, xtag_setI, xown_setI, xlen_setI, xE_setR, xsz_setR, xsl_setR, xtag_setR, xown_setR, xlen_setR, xE_setW, xsz_setW, xsl_setW, xtag_setW, xown_setW, xlen_setW, xi_setR, xi_setW, xr_setI, xr_setW, xww_setI, xww_setR, xi_setI, xr_setR, xww_setW, xE_new, xsz_new, xsl_new, hx, c1, tw1, t2o, t2D]) rfl (by rw [hJ2.2.2.2.1.2.2]; decide) ?_
      rw [wE]
      refine xw_aload (pc := 2740) dL_law_2740 6 rfl ?_
      refine xw_iconst (v := nI 0) (pc := 2742) dL_law_2742 rfl ?_
      refine xw_dald (k := 0) (pc := 2743) dL_law_2743 (by simp [-List.getD_eq_getElem?_getD, xE_setI, xsz_setI, xsl_setI, xtag_setI, xown_setI, xlen_setI, xE_setR, xsz_setR, xsl_setR, xtag_setR, xown_setR, xlen_setR, xE_setW, xsz_setW, xsl_setW, xtag_setW, xown_setW, xlen_setW, xi_setR, xi_setW, xr_setI, xr_setW, xww_setI, xww_setR, xi_setI, xr_setR, xww_setW, xE_new, xsz_new, xsl_new, hx, c1, tw1, t2o, t2D]) rfl (by rw [hJ2.2.2.2.1.2.2]; decide) ?_
      rw [wE]
      refine xw_dcmp (pc := 2744) dL_law_2744 ?_
      refine xw_if_eq (pc := 2745) 2756 dL_law_2745 rfl (fun hb2745 => ?_) (fun hb2745 => ?_)
      · exfalso
        exact hb2733 hb2745
      refine xw_dload (pc := 2748) dL_law_2748 0 rfl ?_
      refine xw_dload (pc := 2750) dL_law_2750 0 rfl ?_
      refine xw_dcmp (pc := 2752) dL_law_2752 ?_
      refine xw_if_ne (pc := 2753) 2758 dL_law_2753 rfl (fun hb2753 => ?_) (fun hb2753 => ?_)
      rotate_left
      · exfalso
        exact hb2733 hb2753
      refine xw_goto (pc := 2758) 3272 dL_law_2758 rfl ?_
      refine xw_pick (pc := 3272) (l' := [(0, _), (1, _), (2, _), (3, _), (4, _), (5, _)]) [2, 3, 4, 5, 6, 7] rfl ?_
      exact k _ _ hJ2 hsz
theorem LC_append {d : Nat} {x m out outD sc len : Nat} {scr : Nat → Int32} {h : xG} {S : xMS} {i : Nat} (hJ : xJ x m out outD sc len scr h S) (hi : i + 6 ≤ len) (hl : len ≤ 144) {Q : Option Value ⊕ Nat → xG → Prop} (k : ∀ h' S', xJ x m out outD sc len scr h' S' → xsz h' + xsl h' ≤ xsz h + xsl h + 46100 → XW M_L_law (d + 92) 3272 [(0, .ref sc), (1, .ref x), (2, .ref m), (3, .ref out), (4, .ref outD), (5, .int (nI i))] [] h' Q) : XW M_L_law (d + 92) 2761 [(0, .ref sc), (1, .ref x), (2, .ref m), (3, .ref out), (4, .ref outD), (5, .int (nI i))] [] h Q := by
  obtain ⟨p_, lk_, fa_, ka_, la_, Z_, n_, rr_, ww_, dq_, da_, hh_, ps_, sv_, hp_⟩ := hJ.1.1.p
  have hx : xtag h x = 1 := hp_.M.tx
  have c1 := hJ.2.2.2.2.1
  have c3 := hJ.2.2.2.2.2.2.1
  have c4 := hJ.2.2.2.2.2.2.2
  have oo := hJ.2.2.1
  have oD := hJ.2.2.2.1
  obtain ⟨cc, hcc, ecc⟩ := i2c_n (scr (i + 1))
  obtain ⟨c, b, S', hc, hP, hR, hW⟩ := W_append (out := out) hJ.1.1 hJ.1.2 hx oo hcc
  refine xw_aload_n (pc := 2761) dL_law_2761 1 rfl ?_
  refine xw_aload_n (pc := 2762) dL_law_2762 0 rfl ?_
  refine xw_iload (pc := 2763) dL_law_2763 5 rfl ?_
  refine xw_iconst (v := nI 1) (pc := 2765) dL_law_2765 rfl ?_
  refine xn_iadd (pc := 2766) dL_law_2766 ?_
  refine xw_iald (k := (i + 1)) (pc := 2767) dL_law_2767 (by simp [-List.getD_eq_getElem?_getD, xE_setI, xsz_setI, xsl_setI, xtag_setI, xown_setI, xlen_setI, xE_setR, xsz_setR, xsl_setR, xtag_setR, xown_setR, xlen_setR, xE_setW, xsz_setW, xsl_setW, xtag_setW, xown_setW, xlen_setW, xi_setR, xi_setW, xr_setI, xr_setW, xww_setI, xww_setR, xi_setI, xr_setR, xww_setW, xE_new, xsz_new, xsl_new, hx, c1]) rfl (by rw [c3]; omega) ?_
  rw [c4 (i + 1) (by omega)]
  refine xw_i2c (pc := 2768) dL_law_2768 ?_
  rw [ecc]
  refine xw_aload_n (pc := 2769) dL_law_2769 3 rfl ?_
  refine xw_callF (pc := 2770) (xr_SX (as := [_, _, _]) ok_X0_append rfl (by decide) q1802 q1803 dL_law_2770 rfl rfl (Nat.le_of_ble_eq_true rfl)) (hW d) ?_
  intro g1 hc1 hm1
  obtain ⟨st1, F1, w1⟩ := hc1
  refine xw_istore (l' := [(6, _), (0, _), (1, _), (2, _), (3, _), (4, _), (5, _)]) (pc := 2773) dL_law_2773 (by decide) rfl ?_
  obtain ⟨hK1, ⟨hM1, h31, he1⟩, ho1, hoD1, hs1⟩ := hJ.mid st1 F1 (by unfold oW; omega) (by unfold oW; omega)
  have tw1 : xtag (xWith g1 m S) sc = 101 := (he1.ti.1 sc).trans hs1.1
  have lw1 : xlen (xWith g1 m S) sc = len := (he1.ti.2.1 sc).trans hs1.2.2.1
  have iw1 : ∀ j, j < len → xi (xWith g1 m S) sc j = scr j := fun j hj => (he1.ti.2.2 sc j).trans (hs1.2.2.2 j hj)
  refine XW.eqv he1.symm ?_
  refine xw_aload_n (pc := 2775) dL_law_2775 3 rfl ?_
  refine xw_aload_n (pc := 2776) dL_law_2776 1 rfl ?_
  refine xw_iload (pc := 2777) dL_law_2777 6 rfl ?_
  refine xw_iconst (v := nI 1) (pc := 2779) dL_law_2779 rfl ?_
  refine xn_iadd (pc := 2780) dL_law_2780 ?_
  refine xw_iald (k := (i + 1)) (pc := 2781) dL_law_2781 (by simp [-List.getD_eq_getElem?_getD, xE_setI, xsz_setI, xsl_setI, xtag_setI, xown_setI, xlen_setI, xE_setR, xsz_setR, xsl_setR, xtag_setR, xown_setR, xlen_setR, xE_setW, xsz_setW, xsl_setW, xtag_setW, xown_setW, xlen_setW, xi_setR, xi_setW, xr_setI, xr_setW, xww_setI, xww_setR, xi_setI, xr_setR, xww_setW, xE_new, xsz_new, xsl_new, hx, c1, tw1]) rfl (by rw [lw1]; omega) ?_
  rw [iw1 (i + 1) (by omega)]
  refine xw_i2c (pc := 2782) dL_law_2782 ?_
  rw [ecc]
  refine xw_callF (pc := 2783) (xr_V (as := [_]) ok_X6_append rfl (by decide) q2668 q2669 q2670 (by rw [xtag_with]; first | (rw [hM1.1]; rfl) | (rw [hM3.1]; rfl)) (by rw [xtag_with]; first | (rw [hM1.1]; rfl) | (rw [hM3.1]; rfl)) dL_law_2783 rfl rfl (Nat.le_of_ble_eq_true rfl)) (jR.val (hR (d + 1) g1 m hM1 h31 hK1)) ?_
  intro g2 hc2 hm2
  obtain ⟨g3, T, e3, ag, c6, hM3, h33, F3⟩ := hc2
  subst e3
  obtain ⟨hJ2, F4⟩ := xJ.done st1 hK1 ho1 hoD1 hs1 ag hM3 h33 F3
  have hsz : xsz (xWith g3 m T) + xsl (xWith g3 m T) ≤ xsz h + xsl h + 46100 := by
    have := F1.2.2.2.1
    have := F4.2.2.2.1
    omega
  have t2o := hJ2.2.2.1.1
  have t2D := hJ2.2.2.2.1.1
  refine xw_istore (l' := [(7, _), (6, _), (0, _), (1, _), (2, _), (3, _), (4, _), (5, _)]) (pc := 2786) dL_law_2786 (by decide) rfl ?_
  refine xw_aload_n (pc := 2788) dL_law_2788 4 rfl ?_
  refine xw_callV (pc := 2789) (xr_V (as := []) ok_X6_thrown rfl (by decide) q2352 q2353 q2354 (by rw [xtag_with]; first | (rw [hM1.1]; rfl) | (rw [hM3.1]; rfl)) (by rw [xtag_with]; first | (rw [hM1.1]; rfl) | (rw [hM3.1]; rfl)) dL_law_2789 rfl rfl (Nat.le_of_ble_eq_true rfl)) (by have z := SP_X6_thrown (d := d + 91) (S := T) hM3; rw [c6] at z; exact z) ?_
  refine xw_iload (pc := 2792) dL_law_2792 1 rfl ?_
  refine xw_icmp_eq (pc := 2794) 2799 dL_law_2794 rfl (fun hb2794 => ?_) (fun hb2794 => ?_)
  rotate_left
  · exfalso
    replace hb2794 : ¬ (c = c) := mt (nI_eq (a := c) (b := c) (by omega) (by omega)).mpr hb2794
    omega
  replace hb2794 : c = c := (nI_eq (a := c) (b := c) (by omega) (by omega)).mp hb2794
  refine xw_iload (pc := 2799) dL_law_2799 1 rfl ?_
  refine xw_if_ne (pc := 2801) 2816 dL_law_2801 rfl (fun hb2801 => ?_) (fun hb2801 => ?_)
  · replace hb2801 : ¬ (c = 0) := mt (nI_eq (a := c) (b := 0) (by omega) (by omega)).mpr hb2801
    refine xw_goto (pc := 2816) 3272 dL_law_2816 rfl ?_
    refine xw_pick (pc := 3272) (l' := [(0, _), (1, _), (2, _), (3, _), (4, _), (5, _)]) [2, 3, 4, 5, 6, 7] rfl ?_
    exact k _ _ hJ2 hsz
  · replace hb2801 : c = 0 := (nI_eq (a := c) (b := 0) (by omega) (by omega)).mp hb2801
    refine xw_aload_n (pc := 2804) dL_law_2804 5 rfl ?_
    refine xw_iconst (v := nI 0) (pc := 2805) dL_law_2805 rfl ?_
    have wE : xw (xWith g3 m T) out 0 = _ := (F4.w' (xlt (by rw [ho1.1]; decide)) (by rw [ho1.2.1]; unfold o313; omega)).trans (w1 hb2801)
    refine xw_lald (k := 0) (pc := 2806) dL_law_2806 (by simp [-List.getD_eq_getElem?_getD, xE_setI, xsz_setI, xsl_setI, xtag_setI, xown_setI, xlen_setI, xE_setR, xsz_setR, xsl_setR, xtag_setR, xown_setR, xlen_setR, xE_setW, xsz_setW, xsl_setW, xtag_setW, xown_setW, xlen_setW, xi_setR, xi_setW, xr_setI, xr_setW, xww_setI, xww_setR, xi_setI, xr_setR, xww_setW, xE_new, xsz_new, xsl_new, hx, c1, tw1, t2o, t2D]) rfl (by rw [hJ2.2.2.1.2.2]; decide) ?_
    rw [wE]
    refine xw_iload (pc := 2807) dL_law_2807 0 rfl ?_
    refine xw_i2l (pc := 2809) dL_law_2809 ?_
    refine xw_lcmp (pc := 2810) dL_law_2810 rfl ?_
    refine xw_if_eq (pc := 2811) 2816 dL_law_2811 rfl (fun hb2811 => ?_) (fun hb2811 => ?_)
    rotate_left
    · exfalso
      exact hb2811 lg_s
    refine xw_goto (pc := 2816) 3272 dL_law_2816 rfl ?_
    refine xw_pick (pc := 3272) (l' := [(0, _), (1, _), (2, _), (3, _), (4, _), (5, _)]) [2, 3, 4, 5, 6, 7] rfl ?_
    exact k _ _ hJ2 hsz
theorem LC_read {d : Nat} {x m out outD sc len : Nat} {scr : Nat → Int32} {h : xG} {S : xMS} {i : Nat} (hJ : xJ x m out outD sc len scr h S) (hi : i + 6 ≤ len) (hl : len ≤ 144) {Q : Option Value ⊕ Nat → xG → Prop} (k : ∀ h' S', xJ x m out outD sc len scr h' S' → xsz h' + xsl h' ≤ xsz h + xsl h + 46100 → XW M_L_law (d + 92) 3272 [(0, .ref sc), (1, .ref x), (2, .ref m), (3, .ref out), (4, .ref outD), (5, .int (nI i))] [] h' Q) : XW M_L_law (d + 92) 2819 [(0, .ref sc), (1, .ref x), (2, .ref m), (3, .ref out), (4, .ref outD), (5, .int (nI i))] [] h Q := by
  obtain ⟨p_, lk_, fa_, ka_, la_, Z_, n_, rr_, ww_, dq_, da_, hh_, ps_, sv_, hp_⟩ := hJ.1.1.p
  have hx : xtag h x = 1 := hp_.M.tx
  have c1 := hJ.2.2.2.2.1
  have c3 := hJ.2.2.2.2.2.2.1
  have c4 := hJ.2.2.2.2.2.2.2
  have oo := hJ.2.2.1
  have oD := hJ.2.2.2.1
  obtain ⟨c, b, S', hc, hP, hR, hW⟩ := W_read (out := out) hJ.1.1 hJ.1.2 hx oo
  refine xw_aload_n (pc := 2819) dL_law_2819 1 rfl ?_
  refine xw_aload_n (pc := 2820) dL_law_2820 3 rfl ?_
  refine xw_callF (pc := 2821) (xr_SX (as := [_, _]) ok_X0_read rfl (by decide) q1830 q1831 dL_law_2821 rfl rfl (Nat.le_of_ble_eq_true rfl)) (hW d) ?_
  intro g1 hc1 hm1
  obtain ⟨st1, F1, w1⟩ := hc1
  refine xw_istore (l' := [(6, _), (0, _), (1, _), (2, _), (3, _), (4, _), (5, _)]) (pc := 2824) dL_law_2824 (by decide) rfl ?_
  obtain ⟨hK1, ⟨hM1, h31, he1⟩, ho1, hoD1, hs1⟩ := hJ.mid st1 F1 (by unfold oW; omega) (by unfold oW; omega)
  have tw1 : xtag (xWith g1 m S) sc = 101 := (he1.ti.1 sc).trans hs1.1
  have lw1 : xlen (xWith g1 m S) sc = len := (he1.ti.2.1 sc).trans hs1.2.2.1
  have iw1 : ∀ j, j < len → xi (xWith g1 m S) sc j = scr j := fun j hj => (he1.ti.2.2 sc j).trans (hs1.2.2.2 j hj)
  refine XW.eqv he1.symm ?_
  refine xw_aload_n (pc := 2826) dL_law_2826 3 rfl ?_
  refine xw_callF (pc := 2827) (xr_V (as := []) ok_X6_read rfl (by decide) q2672 q2673 q2674 (by rw [xtag_with]; first | (rw [hM1.1]; rfl) | (rw [hM3.1]; rfl)) (by rw [xtag_with]; first | (rw [hM1.1]; rfl) | (rw [hM3.1]; rfl)) dL_law_2827 rfl rfl (Nat.le_of_ble_eq_true rfl)) (jR.val (hR (d + 1) g1 m hM1 h31 hK1)) ?_
  intro g2 hc2 hm2
  obtain ⟨g3, T, e3, ag, c6, hM3, h33, F3⟩ := hc2
  subst e3
  obtain ⟨hJ2, F4⟩ := xJ.done st1 hK1 ho1 hoD1 hs1 ag hM3 h33 F3
  have hsz : xsz (xWith g3 m T) + xsl (xWith g3 m T) ≤ xsz h + xsl h + 46100 := by
    have := F1.2.2.2.1
    have := F4.2.2.2.1
    omega
  have t2o := hJ2.2.2.1.1
  have t2D := hJ2.2.2.2.1.1
  refine xw_istore (l' := [(7, _), (6, _), (0, _), (1, _), (2, _), (3, _), (4, _), (5, _)]) (pc := 2830) dL_law_2830 (by decide) rfl ?_
  refine xw_aload_n (pc := 2832) dL_law_2832 4 rfl ?_
  refine xw_callV (pc := 2833) (xr_V (as := []) ok_X6_thrown rfl (by decide) q2352 q2353 q2354 (by rw [xtag_with]; first | (rw [hM1.1]; rfl) | (rw [hM3.1]; rfl)) (by rw [xtag_with]; first | (rw [hM1.1]; rfl) | (rw [hM3.1]; rfl)) dL_law_2833 rfl rfl (Nat.le_of_ble_eq_true rfl)) (by have z := SP_X6_thrown (d := d + 91) (S := T) hM3; rw [c6] at z; exact z) ?_
  refine xw_iload (pc := 2836) dL_law_2836 1 rfl ?_
  refine xw_icmp_eq (pc := 2838) 2843 dL_law_2838 rfl (fun hb2838 => ?_) (fun hb2838 => ?_)
  rotate_left
  · exfalso
    replace hb2838 : ¬ (c = c) := mt (nI_eq (a := c) (b := c) (by omega) (by omega)).mpr hb2838
    omega
  replace hb2838 : c = c := (nI_eq (a := c) (b := c) (by omega) (by omega)).mp hb2838
  refine xw_iload (pc := 2843) dL_law_2843 1 rfl ?_
  refine xw_if_ne (pc := 2845) 2860 dL_law_2845 rfl (fun hb2845 => ?_) (fun hb2845 => ?_)
  · replace hb2845 : ¬ (c = 0) := mt (nI_eq (a := c) (b := 0) (by omega) (by omega)).mpr hb2845
    refine xw_goto (pc := 2860) 3272 dL_law_2860 rfl ?_
    refine xw_pick (pc := 3272) (l' := [(0, _), (1, _), (2, _), (3, _), (4, _), (5, _)]) [2, 3, 4, 5, 6, 7] rfl ?_
    exact k _ _ hJ2 hsz
  · replace hb2845 : c = 0 := (nI_eq (a := c) (b := 0) (by omega) (by omega)).mp hb2845
    refine xw_aload_n (pc := 2848) dL_law_2848 5 rfl ?_
    refine xw_iconst (v := nI 0) (pc := 2849) dL_law_2849 rfl ?_
    have wE : xw (xWith g3 m T) out 0 = _ := (F4.w' (xlt (by rw [ho1.1]; decide)) (by rw [ho1.2.1]; unfold o313; omega)).trans (w1 hb2845)
    refine xw_lald (k := 0) (pc := 2850) dL_law_2850 (by simp [-List.getD_eq_getElem?_getD, xE_setI, xsz_setI, xsl_setI, xtag_setI, xown_setI, xlen_setI, xE_setR, xsz_setR, xsl_setR, xtag_setR, xown_setR, xlen_setR, xE_setW, xsz_setW, xsl_setW, xtag_setW, xown_setW, xlen_setW, xi_setR, xi_setW, xr_setI, xr_setW, xww_setI, xww_setR, xi_setI, xr_setR, xww_setW, xE_new, xsz_new, xsl_new, hx, c1, tw1, t2o, t2D]) rfl (by rw [hJ2.2.2.1.2.2]; decide) ?_
    rw [wE]
    refine xw_iload (pc := 2851) dL_law_2851 0 rfl ?_
    refine xw_i2l (pc := 2853) dL_law_2853 ?_
    refine xw_lcmp (pc := 2854) dL_law_2854 rfl ?_
    refine xw_if_eq (pc := 2855) 2860 dL_law_2855 rfl (fun hb2855 => ?_) (fun hb2855 => ?_)
    rotate_left
    · exfalso
      exact hb2855 lg_s
    refine xw_goto (pc := 2860) 3272 dL_law_2860 rfl ?_
    refine xw_pick (pc := 3272) (l' := [(0, _), (1, _), (2, _), (3, _), (4, _), (5, _)]) [2, 3, 4, 5, 6, 7] rfl ?_
    exact k _ _ hJ2 hsz
theorem LC_faultPosition {d : Nat} {x m out outD sc len : Nat} {scr : Nat → Int32} {h : xG} {S : xMS} {i : Nat} (hJ : xJ x m out outD sc len scr h S) (hi : i + 6 ≤ len) (hl : len ≤ 144) {Q : Option Value ⊕ Nat → xG → Prop} (k : ∀ h' S', xJ x m out outD sc len scr h' S' → xsz h' + xsl h' ≤ xsz h + xsl h + 46100 → XW M_L_law (d + 92) 3272 [(0, .ref sc), (1, .ref x), (2, .ref m), (3, .ref out), (4, .ref outD), (5, .int (nI i))] [] h' Q) : XW M_L_law (d + 92) 2863 [(0, .ref sc), (1, .ref x), (2, .ref m), (3, .ref out), (4, .ref outD), (5, .int (nI i))] [] h Q := by
  obtain ⟨p_, lk_, fa_, ka_, la_, Z_, n_, rr_, ww_, dq_, da_, hh_, ps_, sv_, hp_⟩ := hJ.1.1.p
  have hx : xtag h x = 1 := hp_.M.tx
  have c1 := hJ.2.2.2.2.1
  have c3 := hJ.2.2.2.2.2.2.1
  have c4 := hJ.2.2.2.2.2.2.2
  have oo := hJ.2.2.1
  have oD := hJ.2.2.2.1
  obtain ⟨c, b, S', hc, hP, hR, hW⟩ := W_faultPosition (out := out) hJ.1.1 hJ.1.2 hx oo
  refine xw_aload_n (pc := 2863) dL_law_2863 1 rfl ?_
  refine xw_aload_n (pc := 2864) dL_law_2864 3 rfl ?_
  refine xw_callF (pc := 2865) (xr_SX (as := [_, _]) ok_X0_faultPosition rfl (by decide) q2131 q2132 dL_law_2865 rfl rfl (Nat.le_of_ble_eq_true rfl)) (hW d) ?_
  intro g1 hc1 hm1
  obtain ⟨st1, F1, w1⟩ := hc1
  refine xw_istore (l' := [(6, _), (0, _), (1, _), (2, _), (3, _), (4, _), (5, _)]) (pc := 2868) dL_law_2868 (by decide) rfl ?_
  obtain ⟨hK1, ⟨hM1, h31, he1⟩, ho1, hoD1, hs1⟩ := hJ.mid st1 F1 (by unfold oW; omega) (by unfold oW; omega)
  have tw1 : xtag (xWith g1 m S) sc = 101 := (he1.ti.1 sc).trans hs1.1
  have lw1 : xlen (xWith g1 m S) sc = len := (he1.ti.2.1 sc).trans hs1.2.2.1
  have iw1 : ∀ j, j < len → xi (xWith g1 m S) sc j = scr j := fun j hj => (he1.ti.2.2 sc j).trans (hs1.2.2.2 j hj)
  refine XW.eqv he1.symm ?_
  refine xw_aload_n (pc := 2870) dL_law_2870 3 rfl ?_
  refine xw_callF (pc := 2871) (xr_V (as := []) ok_X6_faultPosition rfl (by decide) q2708 q2709 q2710 (by rw [xtag_with]; first | (rw [hM1.1]; rfl) | (rw [hM3.1]; rfl)) (by rw [xtag_with]; first | (rw [hM1.1]; rfl) | (rw [hM3.1]; rfl)) dL_law_2871 rfl rfl (Nat.le_of_ble_eq_true rfl)) (jR.val (hR (d + 1) g1 m hM1 h31 hK1)) ?_
  intro g2 hc2 hm2
  obtain ⟨g3, T, e3, ag, c6, hM3, h33, F3⟩ := hc2
  subst e3
  obtain ⟨hJ2, F4⟩ := xJ.done st1 hK1 ho1 hoD1 hs1 ag hM3 h33 F3
  have hsz : xsz (xWith g3 m T) + xsl (xWith g3 m T) ≤ xsz h + xsl h + 46100 := by
    have := F1.2.2.2.1
    have := F4.2.2.2.1
    omega
  have t2o := hJ2.2.2.1.1
  have t2D := hJ2.2.2.2.1.1
  refine xw_istore (l' := [(7, _), (6, _), (0, _), (1, _), (2, _), (3, _), (4, _), (5, _)]) (pc := 2874) dL_law_2874 (by decide) rfl ?_
  refine xw_aload_n (pc := 2876) dL_law_2876 4 rfl ?_
  refine xw_callV (pc := 2877) (xr_V (as := []) ok_X6_thrown rfl (by decide) q2352 q2353 q2354 (by rw [xtag_with]; first | (rw [hM1.1]; rfl) | (rw [hM3.1]; rfl)) (by rw [xtag_with]; first | (rw [hM1.1]; rfl) | (rw [hM3.1]; rfl)) dL_law_2877 rfl rfl (Nat.le_of_ble_eq_true rfl)) (by have z := SP_X6_thrown (d := d + 91) (S := T) hM3; rw [c6] at z; exact z) ?_
  refine xw_iload (pc := 2880) dL_law_2880 1 rfl ?_
  refine xw_icmp_eq (pc := 2882) 2887 dL_law_2882 rfl (fun hb2882 => ?_) (fun hb2882 => ?_)
  rotate_left
  · exfalso
    replace hb2882 : ¬ (c = c) := mt (nI_eq (a := c) (b := c) (by omega) (by omega)).mpr hb2882
    omega
  replace hb2882 : c = c := (nI_eq (a := c) (b := c) (by omega) (by omega)).mp hb2882
  refine xw_iload (pc := 2887) dL_law_2887 1 rfl ?_
  refine xw_if_ne (pc := 2889) 2904 dL_law_2889 rfl (fun hb2889 => ?_) (fun hb2889 => ?_)
  · replace hb2889 : ¬ (c = 0) := mt (nI_eq (a := c) (b := 0) (by omega) (by omega)).mpr hb2889
    refine xw_goto (pc := 2904) 3272 dL_law_2904 rfl ?_
    refine xw_pick (pc := 3272) (l' := [(0, _), (1, _), (2, _), (3, _), (4, _), (5, _)]) [2, 3, 4, 5, 6, 7] rfl ?_
    exact k _ _ hJ2 hsz
  · replace hb2889 : c = 0 := (nI_eq (a := c) (b := 0) (by omega) (by omega)).mp hb2889
    refine xw_aload_n (pc := 2892) dL_law_2892 5 rfl ?_
    refine xw_iconst (v := nI 0) (pc := 2893) dL_law_2893 rfl ?_
    have wE : xw (xWith g3 m T) out 0 = _ := (F4.w' (xlt (by rw [ho1.1]; decide)) (by rw [ho1.2.1]; unfold o313; omega)).trans (w1 hb2889)
    refine xw_lald (k := 0) (pc := 2894) dL_law_2894 (by simp [-List.getD_eq_getElem?_getD, xE_setI, xsz_setI, xsl_setI, xtag_setI, xown_setI, xlen_setI, xE_setR, xsz_setR, xsl_setR, xtag_setR, xown_setR, xlen_setR, xE_setW, xsz_setW, xsl_setW, xtag_setW, xown_setW, xlen_setW, xi_setR, xi_setW, xr_setI, xr_setW, xww_setI, xww_setR, xi_setI, xr_setR, xww_setW, xE_new, xsz_new, xsl_new, hx, c1, tw1, t2o, t2D]) rfl (by rw [hJ2.2.2.1.2.2]; decide) ?_
    rw [wE]
    refine xw_iload (pc := 2895) dL_law_2895 0 rfl ?_
    refine xw_i2l (pc := 2897) dL_law_2897 ?_
    refine xw_lcmp (pc := 2898) dL_law_2898 rfl ?_
    refine xw_if_eq (pc := 2899) 2904 dL_law_2899 rfl (fun hb2899 => ?_) (fun hb2899 => ?_)
    rotate_left
    · exfalso
      exact hb2899 lg_s
    refine xw_goto (pc := 2904) 3272 dL_law_2904 rfl ?_
    refine xw_pick (pc := 3272) (l' := [(0, _), (1, _), (2, _), (3, _), (4, _), (5, _)]) [2, 3, 4, 5, 6, 7] rfl ?_
    exact k _ _ hJ2 hsz
theorem LC_explain {d : Nat} {x m out outD sc len : Nat} {scr : Nat → Int32} {h : xG} {S : xMS} {i : Nat} (hJ : xJ x m out outD sc len scr h S) (hi : i + 6 ≤ len) (hl : len ≤ 144) {Q : Option Value ⊕ Nat → xG → Prop} (k : ∀ h' S', xJ x m out outD sc len scr h' S' → xsz h' + xsl h' ≤ xsz h + xsl h + 46100 → XW M_L_law (d + 92) 3272 [(0, .ref sc), (1, .ref x), (2, .ref m), (3, .ref out), (4, .ref outD), (5, .int (nI i))] [] h' Q) : XW M_L_law (d + 92) 2907 [(0, .ref sc), (1, .ref x), (2, .ref m), (3, .ref out), (4, .ref outD), (5, .int (nI i))] [] h Q := by
  obtain ⟨p_, lk_, fa_, ka_, la_, Z_, n_, rr_, ww_, dq_, da_, hh_, ps_, sv_, hp_⟩ := hJ.1.1.p
  have hx : xtag h x = 1 := hp_.M.tx
  have c1 := hJ.2.2.2.2.1
  have c3 := hJ.2.2.2.2.2.2.1
  have c4 := hJ.2.2.2.2.2.2.2
  have oo := hJ.2.2.1
  have oD := hJ.2.2.2.1
  obtain ⟨c, b, S', hc, hP, hR, hW⟩ := W_explain (out := out) hJ.1.1 hJ.1.2 hx oo (p0 := scr (i + 1)) (p1 := scr (i + 2)) (p2 := scr (i + 3))
  refine xw_aload_n (pc := 2907) dL_law_2907 1 rfl ?_
  refine xw_aload_n (pc := 2908) dL_law_2908 0 rfl ?_
  refine xw_iload (pc := 2909) dL_law_2909 5 rfl ?_
  refine xw_iconst (v := nI 1) (pc := 2911) dL_law_2911 rfl ?_
  refine xn_iadd (pc := 2912) dL_law_2912 ?_
  refine xw_iald (k := (i + 1)) (pc := 2913) dL_law_2913 (by simp [-List.getD_eq_getElem?_getD, xE_setI, xsz_setI, xsl_setI, xtag_setI, xown_setI, xlen_setI, xE_setR, xsz_setR, xsl_setR, xtag_setR, xown_setR, xlen_setR, xE_setW, xsz_setW, xsl_setW, xtag_setW, xown_setW, xlen_setW, xi_setR, xi_setW, xr_setI, xr_setW, xww_setI, xww_setR, xi_setI, xr_setR, xww_setW, xE_new, xsz_new, xsl_new, hx, c1]) rfl (by rw [c3]; omega) ?_
  rw [c4 (i + 1) (by omega)]
  refine xw_aload_n (pc := 2914) dL_law_2914 0 rfl ?_
  refine xw_iload (pc := 2915) dL_law_2915 5 rfl ?_
  refine xw_iconst (v := nI 2) (pc := 2917) dL_law_2917 rfl ?_
  refine xn_iadd (pc := 2918) dL_law_2918 ?_
  refine xw_iald (k := (i + 2)) (pc := 2919) dL_law_2919 (by simp [-List.getD_eq_getElem?_getD, xE_setI, xsz_setI, xsl_setI, xtag_setI, xown_setI, xlen_setI, xE_setR, xsz_setR, xsl_setR, xtag_setR, xown_setR, xlen_setR, xE_setW, xsz_setW, xsl_setW, xtag_setW, xown_setW, xlen_setW, xi_setR, xi_setW, xr_setI, xr_setW, xww_setI, xww_setR, xi_setI, xr_setR, xww_setW, xE_new, xsz_new, xsl_new, hx, c1]) rfl (by rw [c3]; omega) ?_
  rw [c4 (i + 2) (by omega)]
  refine xw_aload_n (pc := 2920) dL_law_2920 0 rfl ?_
  refine xw_iload (pc := 2921) dL_law_2921 5 rfl ?_
  refine xw_iconst (v := nI 3) (pc := 2923) dL_law_2923 rfl ?_
  refine xn_iadd (pc := 2924) dL_law_2924 ?_
  refine xw_iald (k := (i + 3)) (pc := 2925) dL_law_2925 (by simp [-List.getD_eq_getElem?_getD, xE_setI, xsz_setI, xsl_setI, xtag_setI, xown_setI, xlen_setI, xE_setR, xsz_setR, xsl_setR, xtag_setR, xown_setR, xlen_setR, xE_setW, xsz_setW, xsl_setW, xtag_setW, xown_setW, xlen_setW, xi_setR, xi_setW, xr_setI, xr_setW, xww_setI, xww_setR, xi_setI, xr_setR, xww_setW, xE_new, xsz_new, xsl_new, hx, c1]) rfl (by rw [c3]; omega) ?_
  rw [c4 (i + 3) (by omega)]
  refine xw_aload_n (pc := 2926) dL_law_2926 3 rfl ?_
  refine xw_callF (pc := 2927) (xr_SX (as := [_, _, _, _, _]) ok_X0_explain rfl (by decide) q2138 q2139 dL_law_2927 rfl rfl (Nat.le_of_ble_eq_true rfl)) (hW d) ?_
  intro g1 hc1 hm1
  obtain ⟨st1, F1, w1⟩ := hc1
  refine xw_istore (l' := [(6, _), (0, _), (1, _), (2, _), (3, _), (4, _), (5, _)]) (pc := 2930) dL_law_2930 (by decide) rfl ?_
  obtain ⟨hK1, ⟨hM1, h31, he1⟩, ho1, hoD1, hs1⟩ := hJ.mid st1 F1 (by unfold oW; omega) (by unfold oW; omega)
  have tw1 : xtag (xWith g1 m S) sc = 101 := (he1.ti.1 sc).trans hs1.1
  have lw1 : xlen (xWith g1 m S) sc = len := (he1.ti.2.1 sc).trans hs1.2.2.1
  have iw1 : ∀ j, j < len → xi (xWith g1 m S) sc j = scr j := fun j hj => (he1.ti.2.2 sc j).trans (hs1.2.2.2 j hj)
  refine XW.eqv he1.symm ?_
  refine xw_aload_n (pc := 2932) dL_law_2932 3 rfl ?_
  refine xw_aload_n (pc := 2933) dL_law_2933 1 rfl ?_
  refine xw_iload (pc := 2934) dL_law_2934 6 rfl ?_
  refine xw_iconst (v := nI 1) (pc := 2936) dL_law_2936 rfl ?_
  refine xn_iadd (pc := 2937) dL_law_2937 ?_
  refine xw_iald (k := (i + 1)) (pc := 2938) dL_law_2938 (by simp [-List.getD_eq_getElem?_getD, xE_setI, xsz_setI, xsl_setI, xtag_setI, xown_setI, xlen_setI, xE_setR, xsz_setR, xsl_setR, xtag_setR, xown_setR, xlen_setR, xE_setW, xsz_setW, xsl_setW, xtag_setW, xown_setW, xlen_setW, xi_setR, xi_setW, xr_setI, xr_setW, xww_setI, xww_setR, xi_setI, xr_setR, xww_setW, xE_new, xsz_new, xsl_new, hx, c1, tw1]) rfl (by rw [lw1]; omega) ?_
  rw [iw1 (i + 1) (by omega)]
  refine xw_aload_n (pc := 2939) dL_law_2939 1 rfl ?_
  refine xw_iload (pc := 2940) dL_law_2940 6 rfl ?_
  refine xw_iconst (v := nI 2) (pc := 2942) dL_law_2942 rfl ?_
  refine xn_iadd (pc := 2943) dL_law_2943 ?_
  refine xw_iald (k := (i + 2)) (pc := 2944) dL_law_2944 (by simp [-List.getD_eq_getElem?_getD, xE_setI, xsz_setI, xsl_setI, xtag_setI, xown_setI, xlen_setI, xE_setR, xsz_setR, xsl_setR, xtag_setR, xown_setR, xlen_setR, xE_setW, xsz_setW, xsl_setW, xtag_setW, xown_setW, xlen_setW, xi_setR, xi_setW, xr_setI, xr_setW, xww_setI, xww_setR, xi_setI, xr_setR, xww_setW, xE_new, xsz_new, xsl_new, hx, c1, tw1]) rfl (by rw [lw1]; omega) ?_
  rw [iw1 (i + 2) (by omega)]
  refine xw_aload_n (pc := 2945) dL_law_2945 1 rfl ?_
  refine xw_iload (pc := 2946) dL_law_2946 6 rfl ?_
  refine xw_iconst (v := nI 3) (pc := 2948) dL_law_2948 rfl ?_
  refine xn_iadd (pc := 2949) dL_law_2949 ?_
  refine xw_iald (k := (i + 3)) (pc := 2950) dL_law_2950 (by simp [-List.getD_eq_getElem?_getD, xE_setI, xsz_setI, xsl_setI, xtag_setI, xown_setI, xlen_setI, xE_setR, xsz_setR, xsl_setR, xtag_setR, xown_setR, xlen_setR, xE_setW, xsz_setW, xsl_setW, xtag_setW, xown_setW, xlen_setW, xi_setR, xi_setW, xr_setI, xr_setW, xww_setI, xww_setR, xi_setI, xr_setR, xww_setW, xE_new, xsz_new, xsl_new, hx, c1, tw1]) rfl (by rw [lw1]; omega) ?_
  rw [iw1 (i + 3) (by omega)]
  refine xw_callF (pc := 2951) (xr_V (as := [_, _, _]) ok_X6_explain rfl (by decide) q2712 q2713 q2714 (by rw [xtag_with]; first | (rw [hM1.1]; rfl) | (rw [hM3.1]; rfl)) (by rw [xtag_with]; first | (rw [hM1.1]; rfl) | (rw [hM3.1]; rfl)) dL_law_2951 rfl rfl (Nat.le_of_ble_eq_true rfl)) (jR.val (hR (d + 1) g1 m hM1 h31 hK1)) ?_
  intro g2 hc2 hm2
  obtain ⟨g3, T, e3, ag, c6, hM3, h33, F3⟩ := hc2
  subst e3
  obtain ⟨hJ2, F4⟩ := xJ.done st1 hK1 ho1 hoD1 hs1 ag hM3 h33 F3
  have hsz : xsz (xWith g3 m T) + xsl (xWith g3 m T) ≤ xsz h + xsl h + 46100 := by
    have := F1.2.2.2.1
    have := F4.2.2.2.1
    omega
  have t2o := hJ2.2.2.1.1
  have t2D := hJ2.2.2.2.1.1
  refine xw_istore (l' := [(7, _), (6, _), (0, _), (1, _), (2, _), (3, _), (4, _), (5, _)]) (pc := 2954) dL_law_2954 (by decide) rfl ?_
  refine xw_aload_n (pc := 2956) dL_law_2956 4 rfl ?_
  refine xw_callV (pc := 2957) (xr_V (as := []) ok_X6_thrown rfl (by decide) q2352 q2353 q2354 (by rw [xtag_with]; first | (rw [hM1.1]; rfl) | (rw [hM3.1]; rfl)) (by rw [xtag_with]; first | (rw [hM1.1]; rfl) | (rw [hM3.1]; rfl)) dL_law_2957 rfl rfl (Nat.le_of_ble_eq_true rfl)) (by have z := SP_X6_thrown (d := d + 91) (S := T) hM3; rw [c6] at z; exact z) ?_
  refine xw_iload (pc := 2960) dL_law_2960 1 rfl ?_
  refine xw_icmp_eq (pc := 2962) 2967 dL_law_2962 rfl (fun hb2962 => ?_) (fun hb2962 => ?_)
  rotate_left
  · exfalso
    replace hb2962 : ¬ (c = c) := mt (nI_eq (a := c) (b := c) (by omega) (by omega)).mpr hb2962
    omega
  replace hb2962 : c = c := (nI_eq (a := c) (b := c) (by omega) (by omega)).mp hb2962
  refine xw_iload (pc := 2967) dL_law_2967 1 rfl ?_
  refine xw_if_ne (pc := 2969) 2984 dL_law_2969 rfl (fun hb2969 => ?_) (fun hb2969 => ?_)
  · replace hb2969 : ¬ (c = 0) := mt (nI_eq (a := c) (b := 0) (by omega) (by omega)).mpr hb2969
    refine xw_goto (pc := 2984) 3272 dL_law_2984 rfl ?_
    refine xw_pick (pc := 3272) (l' := [(0, _), (1, _), (2, _), (3, _), (4, _), (5, _)]) [2, 3, 4, 5, 6, 7] rfl ?_
    exact k _ _ hJ2 hsz
  · replace hb2969 : c = 0 := (nI_eq (a := c) (b := 0) (by omega) (by omega)).mp hb2969
    refine xw_aload_n (pc := 2972) dL_law_2972 5 rfl ?_
    refine xw_iconst (v := nI 0) (pc := 2973) dL_law_2973 rfl ?_
    have wE : xw (xWith g3 m T) out 0 = _ := (F4.w' (xlt (by rw [ho1.1]; decide)) (by rw [ho1.2.1]; unfold o313; omega)).trans (w1 hb2969)
    refine xw_lald (k := 0) (pc := 2974) dL_law_2974 (by simp [-List.getD_eq_getElem?_getD, xE_setI, xsz_setI, xsl_setI, xtag_setI, xown_setI, xlen_setI, xE_setR, xsz_setR, xsl_setR, xtag_setR, xown_setR, xlen_setR, xE_setW, xsz_setW, xsl_setW, xtag_setW, xown_setW, xlen_setW, xi_setR, xi_setW, xr_setI, xr_setW, xww_setI, xww_setR, xi_setI, xr_setR, xww_setW, xE_new, xsz_new, xsl_new, hx, c1, tw1, t2o, t2D]) rfl (by rw [hJ2.2.2.1.2.2]; decide) ?_
    rw [wE]
    refine xw_iload (pc := 2975) dL_law_2975 0 rfl ?_
    refine xw_i2l (pc := 2977) dL_law_2977 ?_
    refine xw_lcmp (pc := 2978) dL_law_2978 rfl ?_
    refine xw_if_eq (pc := 2979) 2984 dL_law_2979 rfl (fun hb2979 => ?_) (fun hb2979 => ?_)
    rotate_left
    · exfalso
      exact hb2979 lg_s
    refine xw_goto (pc := 2984) 3272 dL_law_2984 rfl ?_
    refine xw_pick (pc := 3272) (l' := [(0, _), (1, _), (2, _), (3, _), (4, _), (5, _)]) [2, 3, 4, 5, 6, 7] rfl ?_
    exact k _ _ hJ2 hsz
theorem LC_character {d : Nat} {x m out outD sc len : Nat} {scr : Nat → Int32} {h : xG} {S : xMS} {i : Nat} (hJ : xJ x m out outD sc len scr h S) (hi : i + 6 ≤ len) (hl : len ≤ 144) {Q : Option Value ⊕ Nat → xG → Prop} (k : ∀ h' S', xJ x m out outD sc len scr h' S' → xsz h' + xsl h' ≤ xsz h + xsl h + 46100 → XW M_L_law (d + 92) 3272 [(0, .ref sc), (1, .ref x), (2, .ref m), (3, .ref out), (4, .ref outD), (5, .int (nI i))] [] h' Q) : XW M_L_law (d + 92) 2987 [(0, .ref sc), (1, .ref x), (2, .ref m), (3, .ref out), (4, .ref outD), (5, .int (nI i))] [] h Q := by
  obtain ⟨p_, lk_, fa_, ka_, la_, Z_, n_, rr_, ww_, dq_, da_, hh_, ps_, sv_, hp_⟩ := hJ.1.1.p
  have hx : xtag h x = 1 := hp_.M.tx
  have c1 := hJ.2.2.2.2.1
  have c3 := hJ.2.2.2.2.2.2.1
  have c4 := hJ.2.2.2.2.2.2.2
  have oo := hJ.2.2.1
  have oD := hJ.2.2.2.1
  obtain ⟨c, b, S', hc, hP, hR, hW⟩ := W_character (out := out) hJ.1.1 hJ.1.2 hx oo (p0 := scr (i + 1))
  refine xw_aload_n (pc := 2987) dL_law_2987 1 rfl ?_
  refine xw_aload_n (pc := 2988) dL_law_2988 0 rfl ?_
  refine xw_iload (pc := 2989) dL_law_2989 5 rfl ?_
  refine xw_iconst (v := nI 1) (pc := 2991) dL_law_2991 rfl ?_
  refine xn_iadd (pc := 2992) dL_law_2992 ?_
  refine xw_iald (k := (i + 1)) (pc := 2993) dL_law_2993 (by simp [-List.getD_eq_getElem?_getD, xE_setI, xsz_setI, xsl_setI, xtag_setI, xown_setI, xlen_setI, xE_setR, xsz_setR, xsl_setR, xtag_setR, xown_setR, xlen_setR, xE_setW, xsz_setW, xsl_setW, xtag_setW, xown_setW, xlen_setW, xi_setR, xi_setW, xr_setI, xr_setW, xww_setI, xww_setR, xi_setI, xr_setR, xww_setW, xE_new, xsz_new, xsl_new, hx, c1]) rfl (by rw [c3]; omega) ?_
  rw [c4 (i + 1) (by omega)]
  refine xw_aload_n (pc := 2994) dL_law_2994 3 rfl ?_
  refine xw_callF (pc := 2995) (xr_SX (as := [_, _, _]) ok_X0_character rfl (by decide) q2166 q2167 dL_law_2995 rfl rfl (Nat.le_of_ble_eq_true rfl)) (hW d) ?_
  intro g1 hc1 hm1
  obtain ⟨st1, F1, w1⟩ := hc1
  refine xw_istore (l' := [(6, _), (0, _), (1, _), (2, _), (3, _), (4, _), (5, _)]) (pc := 2998) dL_law_2998 (by decide) rfl ?_
  obtain ⟨hK1, ⟨hM1, h31, he1⟩, ho1, hoD1, hs1⟩ := hJ.mid st1 F1 (by unfold oW; omega) (by unfold oW; omega)
  have tw1 : xtag (xWith g1 m S) sc = 101 := (he1.ti.1 sc).trans hs1.1
  have lw1 : xlen (xWith g1 m S) sc = len := (he1.ti.2.1 sc).trans hs1.2.2.1
  have iw1 : ∀ j, j < len → xi (xWith g1 m S) sc j = scr j := fun j hj => (he1.ti.2.2 sc j).trans (hs1.2.2.2 j hj)
  refine XW.eqv he1.symm ?_
  refine xw_aload_n (pc := 3000) dL_law_3000 3 rfl ?_
  refine xw_aload_n (pc := 3001) dL_law_3001 1 rfl ?_
  refine xw_iload (pc := 3002) dL_law_3002 6 rfl ?_
  refine xw_iconst (v := nI 1) (pc := 3004) dL_law_3004 rfl ?_
  refine xn_iadd (pc := 3005) dL_law_3005 ?_
  refine xw_iald (k := (i + 1)) (pc := 3006) dL_law_3006 (by simp [-List.getD_eq_getElem?_getD, xE_setI, xsz_setI, xsl_setI, xtag_setI, xown_setI, xlen_setI, xE_setR, xsz_setR, xsl_setR, xtag_setR, xown_setR, xlen_setR, xE_setW, xsz_setW, xsl_setW, xtag_setW, xown_setW, xlen_setW, xi_setR, xi_setW, xr_setI, xr_setW, xww_setI, xww_setR, xi_setI, xr_setR, xww_setW, xE_new, xsz_new, xsl_new, hx, c1, tw1]) rfl (by rw [lw1]; omega) ?_
  rw [iw1 (i + 1) (by omega)]
  refine xw_callF (pc := 3007) (xr_V (as := [_]) ok_X6_character rfl (by decide) q2733 q2734 q2735 (by rw [xtag_with]; first | (rw [hM1.1]; rfl) | (rw [hM3.1]; rfl)) (by rw [xtag_with]; first | (rw [hM1.1]; rfl) | (rw [hM3.1]; rfl)) dL_law_3007 rfl rfl (Nat.le_of_ble_eq_true rfl)) (jR.val (hR (d + 1) g1 m hM1 h31 hK1)) ?_
  intro g2 hc2 hm2
  obtain ⟨g3, T, e3, ag, c6, hM3, h33, F3⟩ := hc2
  subst e3
  obtain ⟨hJ2, F4⟩ := xJ.done st1 hK1 ho1 hoD1 hs1 ag hM3 h33 F3
  have hsz : xsz (xWith g3 m T) + xsl (xWith g3 m T) ≤ xsz h + xsl h + 46100 := by
    have := F1.2.2.2.1
    have := F4.2.2.2.1
    omega
  have t2o := hJ2.2.2.1.1
  have t2D := hJ2.2.2.2.1.1
  refine xw_istore (l' := [(7, _), (6, _), (0, _), (1, _), (2, _), (3, _), (4, _), (5, _)]) (pc := 3010) dL_law_3010 (by decide) rfl ?_
  refine xw_aload_n (pc := 3012) dL_law_3012 4 rfl ?_
  refine xw_callV (pc := 3013) (xr_V (as := []) ok_X6_thrown rfl (by decide) q2352 q2353 q2354 (by rw [xtag_with]; first | (rw [hM1.1]; rfl) | (rw [hM3.1]; rfl)) (by rw [xtag_with]; first | (rw [hM1.1]; rfl) | (rw [hM3.1]; rfl)) dL_law_3013 rfl rfl (Nat.le_of_ble_eq_true rfl)) (by have z := SP_X6_thrown (d := d + 91) (S := T) hM3; rw [c6] at z; exact z) ?_
  refine xw_iload (pc := 3016) dL_law_3016 1 rfl ?_
  refine xw_icmp_eq (pc := 3018) 3023 dL_law_3018 rfl (fun hb3018 => ?_) (fun hb3018 => ?_)
  rotate_left
  · exfalso
    replace hb3018 : ¬ (c = c) := mt (nI_eq (a := c) (b := c) (by omega) (by omega)).mpr hb3018
    omega
  replace hb3018 : c = c := (nI_eq (a := c) (b := c) (by omega) (by omega)).mp hb3018
  refine xw_iload (pc := 3023) dL_law_3023 1 rfl ?_
  refine xw_if_ne (pc := 3025) 3040 dL_law_3025 rfl (fun hb3025 => ?_) (fun hb3025 => ?_)
  · replace hb3025 : ¬ (c = 0) := mt (nI_eq (a := c) (b := 0) (by omega) (by omega)).mpr hb3025
    refine xw_goto (pc := 3040) 3272 dL_law_3040 rfl ?_
    refine xw_pick (pc := 3272) (l' := [(0, _), (1, _), (2, _), (3, _), (4, _), (5, _)]) [2, 3, 4, 5, 6, 7] rfl ?_
    exact k _ _ hJ2 hsz
  · replace hb3025 : c = 0 := (nI_eq (a := c) (b := 0) (by omega) (by omega)).mp hb3025
    refine xw_aload_n (pc := 3028) dL_law_3028 5 rfl ?_
    refine xw_iconst (v := nI 0) (pc := 3029) dL_law_3029 rfl ?_
    have wE : xw (xWith g3 m T) out 0 = _ := (F4.w' (xlt (by rw [ho1.1]; decide)) (by rw [ho1.2.1]; unfold o313; omega)).trans (w1 hb3025)
    refine xw_lald (k := 0) (pc := 3030) dL_law_3030 (by simp [-List.getD_eq_getElem?_getD, xE_setI, xsz_setI, xsl_setI, xtag_setI, xown_setI, xlen_setI, xE_setR, xsz_setR, xsl_setR, xtag_setR, xown_setR, xlen_setR, xE_setW, xsz_setW, xsl_setW, xtag_setW, xown_setW, xlen_setW, xi_setR, xi_setW, xr_setI, xr_setW, xww_setI, xww_setR, xi_setI, xr_setR, xww_setW, xE_new, xsz_new, xsl_new, hx, c1, tw1, t2o, t2D]) rfl (by rw [hJ2.2.2.1.2.2]; decide) ?_
    rw [wE]
    refine xw_iload (pc := 3031) dL_law_3031 0 rfl ?_
    refine xw_i2l (pc := 3033) dL_law_3033 ?_
    refine xw_lcmp (pc := 3034) dL_law_3034 rfl ?_
    refine xw_if_eq (pc := 3035) 3040 dL_law_3035 rfl (fun hb3035 => ?_) (fun hb3035 => ?_)
    rotate_left
    · exfalso
      exact hb3035 lg_s
    refine xw_goto (pc := 3040) 3272 dL_law_3040 rfl ?_
    refine xw_pick (pc := 3272) (l' := [(0, _), (1, _), (2, _), (3, _), (4, _), (5, _)]) [2, 3, 4, 5, 6, 7] rfl ?_
    exact k _ _ hJ2 hsz
theorem LC_reason_1 {d : Nat} {x m out outD sc len : Nat} {scr : Nat → Int32} {h : xG} {S : xMS} {i : Nat} (hJ : xJ x m out outD sc len scr h S) (hi : i + 6 ≤ len) (hl : len ≤ 144) {Q : Option Value ⊕ Nat → xG → Prop} (k : ∀ h' S', xJ x m out outD sc len scr h' S' → xsz h' + xsl h' ≤ xsz h + xsl h + 46100 → XW M_L_law (d + 92) 3272 [(0, .ref sc), (1, .ref x), (2, .ref m), (3, .ref out), (4, .ref outD), (5, .int (nI i))] [] h' Q) (hz : ¬ scr (i + 1) = 0) : XW M_L_law (d + 92) 3043 [(0, .ref sc), (1, .ref x), (2, .ref m), (3, .ref out), (4, .ref outD), (5, .int (nI i))] [] h Q := by
  obtain ⟨p_, lk_, fa_, ka_, la_, Z_, n_, rr_, ww_, dq_, da_, hh_, ps_, sv_, hp_⟩ := hJ.1.1.p
  have hx : xtag h x = 1 := hp_.M.tx
  have c1 := hJ.2.2.2.2.1
  have c3 := hJ.2.2.2.2.2.2.1
  have c4 := hJ.2.2.2.2.2.2.2
  have oo := hJ.2.2.1
  have oD := hJ.2.2.2.1
  obtain ⟨c, b, S', hc, hP, hR, hW⟩ := W_reason (out := out) hJ.1.1 hJ.1.2 hx oo (b := true)
  refine xw_aload_n (pc := 3043) dL_law_3043 1 rfl ?_
  refine xw_aload_n (pc := 3044) dL_law_3044 0 rfl ?_
  refine xw_iload (pc := 3045) dL_law_3045 5 rfl ?_
  refine xw_iconst (v := nI 1) (pc := 3047) dL_law_3047 rfl ?_
  refine xn_iadd (pc := 3048) dL_law_3048 ?_
  refine xw_iald (k := (i + 1)) (pc := 3049) dL_law_3049 (by simp [-List.getD_eq_getElem?_getD, xE_setI, xsz_setI, xsl_setI, xtag_setI, xown_setI, xlen_setI, xE_setR, xsz_setR, xsl_setR, xtag_setR, xown_setR, xlen_setR, xE_setW, xsz_setW, xsl_setW, xtag_setW, xown_setW, xlen_setW, xi_setR, xi_setW, xr_setI, xr_setW, xww_setI, xww_setR, xi_setI, xr_setR, xww_setW, xE_new, xsz_new, xsl_new, hx, c1]) rfl (by rw [c3]; omega) ?_
  rw [c4 (i + 1) (by omega)]
  refine xw_if_eq (pc := 3050) 3057 dL_law_3050 rfl (fun hb3050 => ?_) (fun hb3050 => ?_)
  · exfalso
    exact hz hb3050
  refine xw_iconst (v := nI 1) (pc := 3053) dL_law_3053 rfl ?_
  refine xw_goto (pc := 3054) 3058 dL_law_3054 rfl ?_
  rw [show nI 1 = bI true from rfl]
  refine xw_aload_n (pc := 3058) dL_law_3058 3 rfl ?_
  refine xw_callF (pc := 3059) (xr_SX (as := [_, _, _]) ok_X0_reason rfl (by decide) q2174 q2175 dL_law_3059 rfl rfl (Nat.le_of_ble_eq_true rfl)) (hW d) ?_
  intro g1 hc1 hm1
  obtain ⟨st1, F1, w1⟩ := hc1
  refine xw_istore (l' := [(6, _), (0, _), (1, _), (2, _), (3, _), (4, _), (5, _)]) (pc := 3062) dL_law_3062 (by decide) rfl ?_
  obtain ⟨hK1, ⟨hM1, h31, he1⟩, ho1, hoD1, hs1⟩ := hJ.mid st1 F1 (by unfold oW; omega) (by unfold oW; omega)
  have tw1 : xtag (xWith g1 m S) sc = 101 := (he1.ti.1 sc).trans hs1.1
  have lw1 : xlen (xWith g1 m S) sc = len := (he1.ti.2.1 sc).trans hs1.2.2.1
  have iw1 : ∀ j, j < len → xi (xWith g1 m S) sc j = scr j := fun j hj => (he1.ti.2.2 sc j).trans (hs1.2.2.2 j hj)
  refine XW.eqv he1.symm ?_
  refine xw_aload_n (pc := 3064) dL_law_3064 3 rfl ?_
  refine xw_aload_n (pc := 3065) dL_law_3065 1 rfl ?_
  refine xw_iload (pc := 3066) dL_law_3066 6 rfl ?_
  refine xw_iconst (v := nI 1) (pc := 3068) dL_law_3068 rfl ?_
  refine xn_iadd (pc := 3069) dL_law_3069 ?_
  refine xw_iald (k := (i + 1)) (pc := 3070) dL_law_3070 (by simp [-List.getD_eq_getElem?_getD, xE_setI, xsz_setI, xsl_setI, xtag_setI, xown_setI, xlen_setI, xE_setR, xsz_setR, xsl_setR, xtag_setR, xown_setR, xlen_setR, xE_setW, xsz_setW, xsl_setW, xtag_setW, xown_setW, xlen_setW, xi_setR, xi_setW, xr_setI, xr_setW, xww_setI, xww_setR, xi_setI, xr_setR, xww_setW, xE_new, xsz_new, xsl_new, hx, c1, tw1]) rfl (by rw [lw1]; omega) ?_
  rw [iw1 (i + 1) (by omega)]
  refine xw_if_eq (pc := 3071) 3078 dL_law_3071 rfl (fun hb3071 => ?_) (fun hb3071 => ?_)
  · exfalso
    exact hz hb3071
  refine xw_iconst (v := nI 1) (pc := 3074) dL_law_3074 rfl ?_
  refine xw_goto (pc := 3075) 3079 dL_law_3075 rfl ?_
  rw [show nI 1 = bI true from rfl]
  refine xw_callF (pc := 3079) (xr_V (as := [_]) ok_X6_reason rfl (by decide) q2737 q2738 q2739 (by rw [xtag_with]; first | (rw [hM1.1]; rfl) | (rw [hM3.1]; rfl)) (by rw [xtag_with]; first | (rw [hM1.1]; rfl) | (rw [hM3.1]; rfl)) dL_law_3079 rfl rfl (Nat.le_of_ble_eq_true rfl)) (jR.val (hR (d + 1) g1 m hM1 h31 hK1)) ?_
  intro g2 hc2 hm2
  obtain ⟨g3, T, e3, ag, c6, hM3, h33, F3⟩ := hc2
  subst e3
  obtain ⟨hJ2, F4⟩ := xJ.done st1 hK1 ho1 hoD1 hs1 ag hM3 h33 F3
  have hsz : xsz (xWith g3 m T) + xsl (xWith g3 m T) ≤ xsz h + xsl h + 46100 := by
    have := F1.2.2.2.1
    have := F4.2.2.2.1
    omega
  have t2o := hJ2.2.2.1.1
  have t2D := hJ2.2.2.2.1.1
  refine xw_istore (l' := [(7, _), (6, _), (0, _), (1, _), (2, _), (3, _), (4, _), (5, _)]) (pc := 3082) dL_law_3082 (by decide) rfl ?_
  refine xw_aload_n (pc := 3084) dL_law_3084 4 rfl ?_
  refine xw_callV (pc := 3085) (xr_V (as := []) ok_X6_thrown rfl (by decide) q2352 q2353 q2354 (by rw [xtag_with]; first | (rw [hM1.1]; rfl) | (rw [hM3.1]; rfl)) (by rw [xtag_with]; first | (rw [hM1.1]; rfl) | (rw [hM3.1]; rfl)) dL_law_3085 rfl rfl (Nat.le_of_ble_eq_true rfl)) (by have z := SP_X6_thrown (d := d + 91) (S := T) hM3; rw [c6] at z; exact z) ?_
  refine xw_iload (pc := 3088) dL_law_3088 1 rfl ?_
  refine xw_icmp_eq (pc := 3090) 3095 dL_law_3090 rfl (fun hb3090 => ?_) (fun hb3090 => ?_)
  rotate_left
  · exfalso
    replace hb3090 : ¬ (c = c) := mt (nI_eq (a := c) (b := c) (by omega) (by omega)).mpr hb3090
    omega
  replace hb3090 : c = c := (nI_eq (a := c) (b := c) (by omega) (by omega)).mp hb3090
  refine xw_iload (pc := 3095) dL_law_3095 1 rfl ?_
  refine xw_if_ne (pc := 3097) 3112 dL_law_3097 rfl (fun hb3097 => ?_) (fun hb3097 => ?_)
  · replace hb3097 : ¬ (c = 0) := mt (nI_eq (a := c) (b := 0) (by omega) (by omega)).mpr hb3097
    refine xw_goto (pc := 3112) 3272 dL_law_3112 rfl ?_
    refine xw_pick (pc := 3272) (l' := [(0, _), (1, _), (2, _), (3, _), (4, _), (5, _)]) [2, 3, 4, 5, 6, 7] rfl ?_
    exact k _ _ hJ2 hsz
  · replace hb3097 : c = 0 := (nI_eq (a := c) (b := 0) (by omega) (by omega)).mp hb3097
    refine xw_aload_n (pc := 3100) dL_law_3100 5 rfl ?_
    refine xw_iconst (v := nI 0) (pc := 3101) dL_law_3101 rfl ?_
    have wE : xw (xWith g3 m T) out 0 = _ := (F4.w' (xlt (by rw [ho1.1]; decide)) (by rw [ho1.2.1]; unfold o313; omega)).trans (w1 hb3097)
    refine xw_lald (k := 0) (pc := 3102) dL_law_3102 (by simp [-List.getD_eq_getElem?_getD, xE_setI, xsz_setI, xsl_setI, xtag_setI, xown_setI, xlen_setI, xE_setR, xsz_setR, xsl_setR, xtag_setR, xown_setR, xlen_setR, xE_setW, xsz_setW, xsl_setW, xtag_setW, xown_setW, xlen_setW, xi_setR, xi_setW, xr_setI, xr_setW, xww_setI, xww_setR, xi_setI, xr_setR, xww_setW, xE_new, xsz_new, xsl_new, hx, c1, tw1, t2o, t2D]) rfl (by rw [hJ2.2.2.1.2.2]; decide) ?_
    rw [wE]
    refine xw_iload (pc := 3103) dL_law_3103 0 rfl ?_
    refine xw_i2l (pc := 3105) dL_law_3105 ?_
    refine xw_lcmp (pc := 3106) dL_law_3106 rfl ?_
    refine xw_if_eq (pc := 3107) 3112 dL_law_3107 rfl (fun hb3107 => ?_) (fun hb3107 => ?_)
    rotate_left
    · exfalso
      exact hb3107 lg_s
    refine xw_goto (pc := 3112) 3272 dL_law_3112 rfl ?_
    refine xw_pick (pc := 3272) (l' := [(0, _), (1, _), (2, _), (3, _), (4, _), (5, _)]) [2, 3, 4, 5, 6, 7] rfl ?_
    exact k _ _ hJ2 hsz
theorem LC_reason_0 {d : Nat} {x m out outD sc len : Nat} {scr : Nat → Int32} {h : xG} {S : xMS} {i : Nat} (hJ : xJ x m out outD sc len scr h S) (hi : i + 6 ≤ len) (hl : len ≤ 144) {Q : Option Value ⊕ Nat → xG → Prop} (k : ∀ h' S', xJ x m out outD sc len scr h' S' → xsz h' + xsl h' ≤ xsz h + xsl h + 46100 → XW M_L_law (d + 92) 3272 [(0, .ref sc), (1, .ref x), (2, .ref m), (3, .ref out), (4, .ref outD), (5, .int (nI i))] [] h' Q) (hz : scr (i + 1) = 0) : XW M_L_law (d + 92) 3043 [(0, .ref sc), (1, .ref x), (2, .ref m), (3, .ref out), (4, .ref outD), (5, .int (nI i))] [] h Q := by
  obtain ⟨p_, lk_, fa_, ka_, la_, Z_, n_, rr_, ww_, dq_, da_, hh_, ps_, sv_, hp_⟩ := hJ.1.1.p
  have hx : xtag h x = 1 := hp_.M.tx
  have c1 := hJ.2.2.2.2.1
  have c3 := hJ.2.2.2.2.2.2.1
  have c4 := hJ.2.2.2.2.2.2.2
  have oo := hJ.2.2.1
  have oD := hJ.2.2.2.1
  obtain ⟨c, b, S', hc, hP, hR, hW⟩ := W_reason (out := out) hJ.1.1 hJ.1.2 hx oo (b := false)
  refine xw_aload_n (pc := 3043) dL_law_3043 1 rfl ?_
  refine xw_aload_n (pc := 3044) dL_law_3044 0 rfl ?_
  refine xw_iload (pc := 3045) dL_law_3045 5 rfl ?_
  refine xw_iconst (v := nI 1) (pc := 3047) dL_law_3047 rfl ?_
  refine xn_iadd (pc := 3048) dL_law_3048 ?_
  refine xw_iald (k := (i + 1)) (pc := 3049) dL_law_3049 (by simp [-List.getD_eq_getElem?_getD, xE_setI, xsz_setI, xsl_setI, xtag_setI, xown_setI, xlen_setI, xE_setR, xsz_setR, xsl_setR, xtag_setR, xown_setR, xlen_setR, xE_setW, xsz_setW, xsl_setW, xtag_setW, xown_setW, xlen_setW, xi_setR, xi_setW, xr_setI, xr_setW, xww_setI, xww_setR, xi_setI, xr_setR, xww_setW, xE_new, xsz_new, xsl_new, hx, c1]) rfl (by rw [c3]; omega) ?_
  rw [c4 (i + 1) (by omega)]
  refine xw_if_eq (pc := 3050) 3057 dL_law_3050 rfl (fun hb3050 => ?_) (fun hb3050 => ?_)
  rotate_left
  · exfalso
    exact hb3050 hz
  refine xw_iconst (v := nI 0) (pc := 3057) dL_law_3057 rfl ?_
  rw [show nI 0 = bI false from rfl]
  refine xw_aload_n (pc := 3058) dL_law_3058 3 rfl ?_
  refine xw_callF (pc := 3059) (xr_SX (as := [_, _, _]) ok_X0_reason rfl (by decide) q2174 q2175 dL_law_3059 rfl rfl (Nat.le_of_ble_eq_true rfl)) (hW d) ?_
  intro g1 hc1 hm1
  obtain ⟨st1, F1, w1⟩ := hc1
  refine xw_istore (l' := [(6, _), (0, _), (1, _), (2, _), (3, _), (4, _), (5, _)]) (pc := 3062) dL_law_3062 (by decide) rfl ?_
  obtain ⟨hK1, ⟨hM1, h31, he1⟩, ho1, hoD1, hs1⟩ := hJ.mid st1 F1 (by unfold oW; omega) (by unfold oW; omega)
  have tw1 : xtag (xWith g1 m S) sc = 101 := (he1.ti.1 sc).trans hs1.1
  have lw1 : xlen (xWith g1 m S) sc = len := (he1.ti.2.1 sc).trans hs1.2.2.1
  have iw1 : ∀ j, j < len → xi (xWith g1 m S) sc j = scr j := fun j hj => (he1.ti.2.2 sc j).trans (hs1.2.2.2 j hj)
  refine XW.eqv he1.symm ?_
  refine xw_aload_n (pc := 3064) dL_law_3064 3 rfl ?_
  refine xw_aload_n (pc := 3065) dL_law_3065 1 rfl ?_
  refine xw_iload (pc := 3066) dL_law_3066 6 rfl ?_
  refine xw_iconst (v := nI 1) (pc := 3068) dL_law_3068 rfl ?_
  refine xn_iadd (pc := 3069) dL_law_3069 ?_
  refine xw_iald (k := (i + 1)) (pc := 3070) dL_law_3070 (by simp [-List.getD_eq_getElem?_getD, xE_setI, xsz_setI, xsl_setI, xtag_setI, xown_setI, xlen_setI, xE_setR, xsz_setR, xsl_setR, xtag_setR, xown_setR, xlen_setR, xE_setW, xsz_setW, xsl_setW, xtag_setW, xown_setW, xlen_setW, xi_setR, xi_setW, xr_setI, xr_setW, xww_setI, xww_setR, xi_setI, xr_setR, xww_setW, xE_new, xsz_new, xsl_new, hx, c1, tw1]) rfl (by rw [lw1]; omega) ?_
  rw [iw1 (i + 1) (by omega)]
  refine xw_if_eq (pc := 3071) 3078 dL_law_3071 rfl (fun hb3071 => ?_) (fun hb3071 => ?_)
  rotate_left
  · exfalso
    exact hb3071 hz
  refine xw_iconst (v := nI 0) (pc := 3078) dL_law_3078 rfl ?_
  rw [show nI 0 = bI false from rfl]
  refine xw_callF (pc := 3079) (xr_V (as := [_]) ok_X6_reason rfl (by decide) q2737 q2738 q2739 (by rw [xtag_with]; first | (rw [hM1.1]; rfl) | (rw [hM3.1]; rfl)) (by rw [xtag_with]; first | (rw [hM1.1]; rfl) | (rw [hM3.1]; rfl)) dL_law_3079 rfl rfl (Nat.le_of_ble_eq_true rfl)) (jR.val (hR (d + 1) g1 m hM1 h31 hK1)) ?_
  intro g2 hc2 hm2
  obtain ⟨g3, T, e3, ag, c6, hM3, h33, F3⟩ := hc2
  subst e3
  obtain ⟨hJ2, F4⟩ := xJ.done st1 hK1 ho1 hoD1 hs1 ag hM3 h33 F3
  have hsz : xsz (xWith g3 m T) + xsl (xWith g3 m T) ≤ xsz h + xsl h + 46100 := by
    have := F1.2.2.2.1
    have := F4.2.2.2.1
    omega
  have t2o := hJ2.2.2.1.1
  have t2D := hJ2.2.2.2.1.1
  refine xw_istore (l' := [(7, _), (6, _), (0, _), (1, _), (2, _), (3, _), (4, _), (5, _)]) (pc := 3082) dL_law_3082 (by decide) rfl ?_
  refine xw_aload_n (pc := 3084) dL_law_3084 4 rfl ?_
  refine xw_callV (pc := 3085) (xr_V (as := []) ok_X6_thrown rfl (by decide) q2352 q2353 q2354 (by rw [xtag_with]; first | (rw [hM1.1]; rfl) | (rw [hM3.1]; rfl)) (by rw [xtag_with]; first | (rw [hM1.1]; rfl) | (rw [hM3.1]; rfl)) dL_law_3085 rfl rfl (Nat.le_of_ble_eq_true rfl)) (by have z := SP_X6_thrown (d := d + 91) (S := T) hM3; rw [c6] at z; exact z) ?_
  refine xw_iload (pc := 3088) dL_law_3088 1 rfl ?_
  refine xw_icmp_eq (pc := 3090) 3095 dL_law_3090 rfl (fun hb3090 => ?_) (fun hb3090 => ?_)
  rotate_left
  · exfalso
    replace hb3090 : ¬ (c = c) := mt (nI_eq (a := c) (b := c) (by omega) (by omega)).mpr hb3090
    omega
  replace hb3090 : c = c := (nI_eq (a := c) (b := c) (by omega) (by omega)).mp hb3090
  refine xw_iload (pc := 3095) dL_law_3095 1 rfl ?_
  refine xw_if_ne (pc := 3097) 3112 dL_law_3097 rfl (fun hb3097 => ?_) (fun hb3097 => ?_)
  · replace hb3097 : ¬ (c = 0) := mt (nI_eq (a := c) (b := 0) (by omega) (by omega)).mpr hb3097
    refine xw_goto (pc := 3112) 3272 dL_law_3112 rfl ?_
    refine xw_pick (pc := 3272) (l' := [(0, _), (1, _), (2, _), (3, _), (4, _), (5, _)]) [2, 3, 4, 5, 6, 7] rfl ?_
    exact k _ _ hJ2 hsz
  · replace hb3097 : c = 0 := (nI_eq (a := c) (b := 0) (by omega) (by omega)).mp hb3097
    refine xw_aload_n (pc := 3100) dL_law_3100 5 rfl ?_
    refine xw_iconst (v := nI 0) (pc := 3101) dL_law_3101 rfl ?_
    have wE : xw (xWith g3 m T) out 0 = _ := (F4.w' (xlt (by rw [ho1.1]; decide)) (by rw [ho1.2.1]; unfold o313; omega)).trans (w1 hb3097)
    refine xw_lald (k := 0) (pc := 3102) dL_law_3102 (by simp [-List.getD_eq_getElem?_getD, xE_setI, xsz_setI, xsl_setI, xtag_setI, xown_setI, xlen_setI, xE_setR, xsz_setR, xsl_setR, xtag_setR, xown_setR, xlen_setR, xE_setW, xsz_setW, xsl_setW, xtag_setW, xown_setW, xlen_setW, xi_setR, xi_setW, xr_setI, xr_setW, xww_setI, xww_setR, xi_setI, xr_setR, xww_setW, xE_new, xsz_new, xsl_new, hx, c1, tw1, t2o, t2D]) rfl (by rw [hJ2.2.2.1.2.2]; decide) ?_
    rw [wE]
    refine xw_iload (pc := 3103) dL_law_3103 0 rfl ?_
    refine xw_i2l (pc := 3105) dL_law_3105 ?_
    refine xw_lcmp (pc := 3106) dL_law_3106 rfl ?_
    refine xw_if_eq (pc := 3107) 3112 dL_law_3107 rfl (fun hb3107 => ?_) (fun hb3107 => ?_)
    rotate_left
    · exfalso
      exact hb3107 lg_s
    refine xw_goto (pc := 3112) 3272 dL_law_3112 rfl ?_
    refine xw_pick (pc := 3272) (l' := [(0, _), (1, _), (2, _), (3, _), (4, _), (5, _)]) [2, 3, 4, 5, 6, 7] rfl ?_
    exact k _ _ hJ2 hsz
theorem LC_account {d : Nat} {x m out outD sc len : Nat} {scr : Nat → Int32} {h : xG} {S : xMS} {i : Nat} (hJ : xJ x m out outD sc len scr h S) (hi : i + 6 ≤ len) (hl : len ≤ 144) {Q : Option Value ⊕ Nat → xG → Prop} (k : ∀ h' S', xJ x m out outD sc len scr h' S' → xsz h' + xsl h' ≤ xsz h + xsl h + 46100 → XW M_L_law (d + 92) 3272 [(0, .ref sc), (1, .ref x), (2, .ref m), (3, .ref out), (4, .ref outD), (5, .int (nI i))] [] h' Q) : XW M_L_law (d + 92) 3115 [(0, .ref sc), (1, .ref x), (2, .ref m), (3, .ref out), (4, .ref outD), (5, .int (nI i))] [] h Q := by
  obtain ⟨p_, lk_, fa_, ka_, la_, Z_, n_, rr_, ww_, dq_, da_, hh_, ps_, sv_, hp_⟩ := hJ.1.1.p
  have hx : xtag h x = 1 := hp_.M.tx
  have c1 := hJ.2.2.2.2.1
  have c3 := hJ.2.2.2.2.2.2.1
  have c4 := hJ.2.2.2.2.2.2.2
  have oo := hJ.2.2.1
  have oD := hJ.2.2.2.1
  obtain ⟨c, b, S', hc, hP, hR, hW⟩ := W_account (out := out) hJ.1.1 hJ.1.2 hx oo (p0 := scr (i + 1))
  refine xw_aload_n (pc := 3115) dL_law_3115 1 rfl ?_
  refine xw_aload_n (pc := 3116) dL_law_3116 0 rfl ?_
  refine xw_iload (pc := 3117) dL_law_3117 5 rfl ?_
  refine xw_iconst (v := nI 1) (pc := 3119) dL_law_3119 rfl ?_
  refine xn_iadd (pc := 3120) dL_law_3120 ?_
  refine xw_iald (k := (i + 1)) (pc := 3121) dL_law_3121 (by simp [-List.getD_eq_getElem?_getD, xE_setI, xsz_setI, xsl_setI, xtag_setI, xown_setI, xlen_setI, xE_setR, xsz_setR, xsl_setR, xtag_setR, xown_setR, xlen_setR, xE_setW, xsz_setW, xsl_setW, xtag_setW, xown_setW, xlen_setW, xi_setR, xi_setW, xr_setI, xr_setW, xww_setI, xww_setR, xi_setI, xr_setR, xww_setW, xE_new, xsz_new, xsl_new, hx, c1]) rfl (by rw [c3]; omega) ?_
  rw [c4 (i + 1) (by omega)]
  refine xw_aload_n (pc := 3122) dL_law_3122 3 rfl ?_
  refine xw_callF (pc := 3123) (xr_SX (as := [_, _, _]) ok_X0_account rfl (by decide) q2181 q2182 dL_law_3123 rfl rfl (Nat.le_of_ble_eq_true rfl)) (hW d) ?_
  intro g1 hc1 hm1
  obtain ⟨st1, F1, w1⟩ := hc1
  refine xw_istore (l' := [(6, _), (0, _), (1, _), (2, _), (3, _), (4, _), (5, _)]) (pc := 3126) dL_law_3126 (by decide) rfl ?_
  obtain ⟨hK1, ⟨hM1, h31, he1⟩, ho1, hoD1, hs1⟩ := hJ.mid st1 F1 (by unfold oW; omega) (by unfold oW; omega)
  have tw1 : xtag (xWith g1 m S) sc = 101 := (he1.ti.1 sc).trans hs1.1
  have lw1 : xlen (xWith g1 m S) sc = len := (he1.ti.2.1 sc).trans hs1.2.2.1
  have iw1 : ∀ j, j < len → xi (xWith g1 m S) sc j = scr j := fun j hj => (he1.ti.2.2 sc j).trans (hs1.2.2.2 j hj)
  refine XW.eqv he1.symm ?_
  refine xw_aload_n (pc := 3128) dL_law_3128 3 rfl ?_
  refine xw_aload_n (pc := 3129) dL_law_3129 1 rfl ?_
  refine xw_iload (pc := 3130) dL_law_3130 6 rfl ?_
  refine xw_iconst (v := nI 1) (pc := 3132) dL_law_3132 rfl ?_
  refine xn_iadd (pc := 3133) dL_law_3133 ?_
  refine xw_iald (k := (i + 1)) (pc := 3134) dL_law_3134 (by simp [-List.getD_eq_getElem?_getD, xE_setI, xsz_setI, xsl_setI, xtag_setI, xown_setI, xlen_setI, xE_setR, xsz_setR, xsl_setR, xtag_setR, xown_setR, xlen_setR, xE_setW, xsz_setW, xsl_setW, xtag_setW, xown_setW, xlen_setW, xi_setR, xi_setW, xr_setI, xr_setW, xww_setI, xww_setR, xi_setI, xr_setR, xww_setW, xE_new, xsz_new, xsl_new, hx, c1, tw1]) rfl (by rw [lw1]; omega) ?_
  rw [iw1 (i + 1) (by omega)]
  refine xw_callF (pc := 3135) (xr_V (as := [_]) ok_X6_account rfl (by decide) q2741 q2742 q2743 (by rw [xtag_with]; first | (rw [hM1.1]; rfl) | (rw [hM3.1]; rfl)) (by rw [xtag_with]; first | (rw [hM1.1]; rfl) | (rw [hM3.1]; rfl)) dL_law_3135 rfl rfl (Nat.le_of_ble_eq_true rfl)) (jR.val (hR (d + 1) g1 m hM1 h31 hK1)) ?_
  intro g2 hc2 hm2
  obtain ⟨g3, T, e3, ag, c6, hM3, h33, F3⟩ := hc2
  subst e3
  obtain ⟨hJ2, F4⟩ := xJ.done st1 hK1 ho1 hoD1 hs1 ag hM3 h33 F3
  have hsz : xsz (xWith g3 m T) + xsl (xWith g3 m T) ≤ xsz h + xsl h + 46100 := by
    have := F1.2.2.2.1
    have := F4.2.2.2.1
    omega
  have t2o := hJ2.2.2.1.1
  have t2D := hJ2.2.2.2.1.1
  refine xw_istore (l' := [(7, _), (6, _), (0, _), (1, _), (2, _), (3, _), (4, _), (5, _)]) (pc := 3138) dL_law_3138 (by decide) rfl ?_
  refine xw_aload_n (pc := 3140) dL_law_3140 4 rfl ?_
  refine xw_callV (pc := 3141) (xr_V (as := []) ok_X6_thrown rfl (by decide) q2352 q2353 q2354 (by rw [xtag_with]; first | (rw [hM1.1]; rfl) | (rw [hM3.1]; rfl)) (by rw [xtag_with]; first | (rw [hM1.1]; rfl) | (rw [hM3.1]; rfl)) dL_law_3141 rfl rfl (Nat.le_of_ble_eq_true rfl)) (by have z := SP_X6_thrown (d := d + 91) (S := T) hM3; rw [c6] at z; exact z) ?_
  refine xw_iload (pc := 3144) dL_law_3144 1 rfl ?_
  refine xw_icmp_eq (pc := 3146) 3151 dL_law_3146 rfl (fun hb3146 => ?_) (fun hb3146 => ?_)
  rotate_left
  · exfalso
    replace hb3146 : ¬ (c = c) := mt (nI_eq (a := c) (b := c) (by omega) (by omega)).mpr hb3146
    omega
  replace hb3146 : c = c := (nI_eq (a := c) (b := c) (by omega) (by omega)).mp hb3146
  refine xw_iload (pc := 3151) dL_law_3151 1 rfl ?_
  refine xw_if_ne (pc := 3153) 3168 dL_law_3153 rfl (fun hb3153 => ?_) (fun hb3153 => ?_)
  · replace hb3153 : ¬ (c = 0) := mt (nI_eq (a := c) (b := 0) (by omega) (by omega)).mpr hb3153
    refine xw_goto (pc := 3168) 3272 dL_law_3168 rfl ?_
    refine xw_pick (pc := 3272) (l' := [(0, _), (1, _), (2, _), (3, _), (4, _), (5, _)]) [2, 3, 4, 5, 6, 7] rfl ?_
    exact k _ _ hJ2 hsz
  · replace hb3153 : c = 0 := (nI_eq (a := c) (b := 0) (by omega) (by omega)).mp hb3153
    refine xw_aload_n (pc := 3156) dL_law_3156 5 rfl ?_
    refine xw_iconst (v := nI 0) (pc := 3157) dL_law_3157 rfl ?_
    have wE : xw (xWith g3 m T) out 0 = _ := (F4.w' (xlt (by rw [ho1.1]; decide)) (by rw [ho1.2.1]; unfold o313; omega)).trans (w1 hb3153)
    refine xw_lald (k := 0) (pc := 3158) dL_law_3158 (by simp [-List.getD_eq_getElem?_getD, xE_setI, xsz_setI, xsl_setI, xtag_setI, xown_setI, xlen_setI, xE_setR, xsz_setR, xsl_setR, xtag_setR, xown_setR, xlen_setR, xE_setW, xsz_setW, xsl_setW, xtag_setW, xown_setW, xlen_setW, xi_setR, xi_setW, xr_setI, xr_setW, xww_setI, xww_setR, xi_setI, xr_setR, xww_setW, xE_new, xsz_new, xsl_new, hx, c1, tw1, t2o, t2D]) rfl (by rw [hJ2.2.2.1.2.2]; decide) ?_
    rw [wE]
    refine xw_iload (pc := 3159) dL_law_3159 0 rfl ?_
    refine xw_i2l (pc := 3161) dL_law_3161 ?_
    refine xw_lcmp (pc := 3162) dL_law_3162 rfl ?_
    refine xw_if_eq (pc := 3163) 3168 dL_law_3163 rfl (fun hb3163 => ?_) (fun hb3163 => ?_)
    rotate_left
    · exfalso
      exact hb3163 lg_s
    refine xw_goto (pc := 3168) 3272 dL_law_3168 rfl ?_
    refine xw_pick (pc := 3272) (l' := [(0, _), (1, _), (2, _), (3, _), (4, _), (5, _)]) [2, 3, 4, 5, 6, 7] rfl ?_
    exact k _ _ hJ2 hsz
theorem LC_undo {d : Nat} {x m out outD sc len : Nat} {scr : Nat → Int32} {h : xG} {S : xMS} {i : Nat} (hJ : xJ x m out outD sc len scr h S) (hi : i + 6 ≤ len) (hl : len ≤ 144) {Q : Option Value ⊕ Nat → xG → Prop} (k : ∀ h' S', xJ x m out outD sc len scr h' S' → xsz h' + xsl h' ≤ xsz h + xsl h + 46100 → XW M_L_law (d + 92) 3272 [(0, .ref sc), (1, .ref x), (2, .ref m), (3, .ref out), (4, .ref outD), (5, .int (nI i))] [] h' Q) : XW M_L_law (d + 92) 3171 [(0, .ref sc), (1, .ref x), (2, .ref m), (3, .ref out), (4, .ref outD), (5, .int (nI i))] [] h Q := by
  obtain ⟨p_, lk_, fa_, ka_, la_, Z_, n_, rr_, ww_, dq_, da_, hh_, ps_, sv_, hp_⟩ := hJ.1.1.p
  have hx : xtag h x = 1 := hp_.M.tx
  have c1 := hJ.2.2.2.2.1
  have c3 := hJ.2.2.2.2.2.2.1
  have c4 := hJ.2.2.2.2.2.2.2
  have oo := hJ.2.2.1
  have oD := hJ.2.2.2.1
  obtain ⟨c, b, S', hc, hP, hR, hW⟩ := W_undo (out := out) hJ.1.1 hJ.1.2 hx oo
  refine xw_aload_n (pc := 3171) dL_law_3171 1 rfl ?_
  refine xw_aload_n (pc := 3172) dL_law_3172 3 rfl ?_
  refine xw_callF (pc := 3173) (xr_SX (as := [_, _]) ok_X0_undo rfl (by decide) q2205 q2206 dL_law_3173 rfl rfl (Nat.le_of_ble_eq_true rfl)) (hW d) ?_
  intro g1 hc1 hm1
  obtain ⟨st1, F1, w1⟩ := hc1
  refine xw_istore (l' := [(6, _), (0, _), (1, _), (2, _), (3, _), (4, _), (5, _)]) (pc := 3176) dL_law_3176 (by decide) rfl ?_
  obtain ⟨hK1, ⟨hM1, h31, he1⟩, ho1, hoD1, hs1⟩ := hJ.mid st1 F1 (by unfold oW; omega) (by unfold oW; omega)
  have tw1 : xtag (xWith g1 m S) sc = 101 := (he1.ti.1 sc).trans hs1.1
  have lw1 : xlen (xWith g1 m S) sc = len := (he1.ti.2.1 sc).trans hs1.2.2.1
  have iw1 : ∀ j, j < len → xi (xWith g1 m S) sc j = scr j := fun j hj => (he1.ti.2.2 sc j).trans (hs1.2.2.2 j hj)
  refine XW.eqv he1.symm ?_
  refine xw_aload_n (pc := 3178) dL_law_3178 3 rfl ?_
  refine xw_callF (pc := 3179) (xr_V (as := []) ok_X6_undo rfl (by decide) q2750 q2751 q2752 (by rw [xtag_with]; first | (rw [hM1.1]; rfl) | (rw [hM3.1]; rfl)) (by rw [xtag_with]; first | (rw [hM1.1]; rfl) | (rw [hM3.1]; rfl)) dL_law_3179 rfl rfl (Nat.le_of_ble_eq_true rfl)) (jR.val (hR (d + 1) g1 m hM1 h31 hK1)) ?_
  intro g2 hc2 hm2
  obtain ⟨g3, T, e3, ag, c6, hM3, h33, F3⟩ := hc2
  subst e3
  obtain ⟨hJ2, F4⟩ := xJ.done st1 hK1 ho1 hoD1 hs1 ag hM3 h33 F3
  have hsz : xsz (xWith g3 m T) + xsl (xWith g3 m T) ≤ xsz h + xsl h + 46100 := by
    have := F1.2.2.2.1
    have := F4.2.2.2.1
    omega
  have t2o := hJ2.2.2.1.1
  have t2D := hJ2.2.2.2.1.1
  refine xw_istore (l' := [(7, _), (6, _), (0, _), (1, _), (2, _), (3, _), (4, _), (5, _)]) (pc := 3182) dL_law_3182 (by decide) rfl ?_
  refine xw_aload_n (pc := 3184) dL_law_3184 4 rfl ?_
  refine xw_callV (pc := 3185) (xr_V (as := []) ok_X6_thrown rfl (by decide) q2352 q2353 q2354 (by rw [xtag_with]; first | (rw [hM1.1]; rfl) | (rw [hM3.1]; rfl)) (by rw [xtag_with]; first | (rw [hM1.1]; rfl) | (rw [hM3.1]; rfl)) dL_law_3185 rfl rfl (Nat.le_of_ble_eq_true rfl)) (by have z := SP_X6_thrown (d := d + 91) (S := T) hM3; rw [c6] at z; exact z) ?_
  refine xw_iload (pc := 3188) dL_law_3188 1 rfl ?_
  refine xw_icmp_eq (pc := 3190) 3195 dL_law_3190 rfl (fun hb3190 => ?_) (fun hb3190 => ?_)
  rotate_left
  · exfalso
    replace hb3190 : ¬ (c = c) := mt (nI_eq (a := c) (b := c) (by omega) (by omega)).mpr hb3190
    omega
  replace hb3190 : c = c := (nI_eq (a := c) (b := c) (by omega) (by omega)).mp hb3190
  refine xw_iload (pc := 3195) dL_law_3195 1 rfl ?_
  refine xw_if_ne (pc := 3197) 3212 dL_law_3197 rfl (fun hb3197 => ?_) (fun hb3197 => ?_)
  · replace hb3197 : ¬ (c = 0) := mt (nI_eq (a := c) (b := 0) (by omega) (by omega)).mpr hb3197
    refine xw_goto (pc := 3212) 3272 dL_law_3212 rfl ?_
    refine xw_pick (pc := 3272) (l' := [(0, _), (1, _), (2, _), (3, _), (4, _), (5, _)]) [2, 3, 4, 5, 6, 7] rfl ?_
    exact k _ _ hJ2 hsz
  · replace hb3197 : c = 0 := (nI_eq (a := c) (b := 0) (by omega) (by omega)).mp hb3197
    refine xw_aload_n (pc := 3200) dL_law_3200 5 rfl ?_
    refine xw_iconst (v := nI 0) (pc := 3201) dL_law_3201 rfl ?_
    have wE : xw (xWith g3 m T) out 0 = _ := (F4.w' (xlt (by rw [ho1.1]; decide)) (by rw [ho1.2.1]; unfold o313; omega)).trans (w1 hb3197)
    refine xw_lald (k := 0) (pc := 3202) dL_law_3202 (by simp [-List.getD_eq_getElem?_getD, xE_setI, xsz_setI, xsl_setI, xtag_setI, xown_setI, xlen_setI, xE_setR, xsz_setR, xsl_setR, xtag_setR, xown_setR, xlen_setR, xE_setW, xsz_setW, xsl_setW, xtag_setW, xown_setW, xlen_setW, xi_setR, xi_setW, xr_setI, xr_setW, xww_setI, xww_setR, xi_setI, xr_setR, xww_setW, xE_new, xsz_new, xsl_new, hx, c1, tw1, t2o, t2D]) rfl (by rw [hJ2.2.2.1.2.2]; decide) ?_
    rw [wE]
    refine xw_iload (pc := 3203) dL_law_3203 0 rfl ?_
    refine xw_i2l (pc := 3205) dL_law_3205 ?_
    refine xw_lcmp (pc := 3206) dL_law_3206 rfl ?_
    refine xw_if_eq (pc := 3207) 3212 dL_law_3207 rfl (fun hb3207 => ?_) (fun hb3207 => ?_)
    rotate_left
    · exfalso
      exact hb3207 lg_s
    refine xw_goto (pc := 3212) 3272 dL_law_3212 rfl ?_
    refine xw_pick (pc := 3272) (l' := [(0, _), (1, _), (2, _), (3, _), (4, _), (5, _)]) [2, 3, 4, 5, 6, 7] rfl ?_
    exact k _ _ hJ2 hsz
theorem LC_save {d : Nat} {x m out outD sc len : Nat} {scr : Nat → Int32} {h : xG} {S : xMS} {i : Nat} (hJ : xJ x m out outD sc len scr h S) (hi : i + 6 ≤ len) (hl : len ≤ 144) {Q : Option Value ⊕ Nat → xG → Prop} (k : ∀ h' S', xJ x m out outD sc len scr h' S' → xsz h' + xsl h' ≤ xsz h + xsl h + 46100 → XW M_L_law (d + 92) 3272 [(0, .ref sc), (1, .ref x), (2, .ref m), (3, .ref out), (4, .ref outD), (5, .int (nI i))] [] h' Q) : XW M_L_law (d + 92) 3215 [(0, .ref sc), (1, .ref x), (2, .ref m), (3, .ref out), (4, .ref outD), (5, .int (nI i))] [] h Q := by
  obtain ⟨p_, lk_, fa_, ka_, la_, Z_, n_, rr_, ww_, dq_, da_, hh_, ps_, sv_, hp_⟩ := hJ.1.1.p
  have hx : xtag h x = 1 := hp_.M.tx
  have c1 := hJ.2.2.2.2.1
  have c3 := hJ.2.2.2.2.2.2.1
  have c4 := hJ.2.2.2.2.2.2.2
  have oo := hJ.2.2.1
  have oD := hJ.2.2.2.1
  have hj := J_save hJ.1.1 hJ.1.2
  rcases hj with ⟨a, S', hW, hR⟩ | ⟨t, c, b, S', hL, -, -⟩
  rotate_left
  · simp at hL
  refine xw_aload_n (pc := 3215) dL_law_3215 1 rfl ?_
  refine xw_callF (pc := 3216) (xr_V (as := []) ok_X1_save rfl (by decide) q898 q899 q900 (by rw [hx]; rfl) (by rw [hx]; rfl) dL_law_3216 rfl rfl (Nat.le_of_ble_eq_true rfl)) (hW (d + 1)) ?_
  intro g1 hc1 hm1
  obtain ⟨st1, F1⟩ := hc1
  obtain ⟨hK1, ⟨hM1, h31, he1⟩, ho1, hoD1, hs1⟩ := hJ.mid st1 F1 (by unfold oC; omega) (by unfold oC; omega)
  have tw1 : xtag (xWith g1 m S) sc = 101 := (he1.ti.1 sc).trans hs1.1
  have lw1 : xlen (xWith g1 m S) sc = len := (he1.ti.2.1 sc).trans hs1.2.2.1
  have iw1 : ∀ j, j < len → xi (xWith g1 m S) sc j = scr j := fun j hj => (he1.ti.2.2 sc j).trans (hs1.2.2.2 j hj)
  refine XW.eqv he1.symm ?_
  refine xw_aload_n (pc := 3219) dL_law_3219 2 rfl ?_
  refine xw_callF (pc := 3220) (xr_V (as := []) ok_X6_save rfl (by decide) q2754 q2755 q2756 (by rw [xtag_with]; first | (rw [hM1.1]; rfl) | (rw [hM3.1]; rfl)) (by rw [xtag_with]; first | (rw [hM1.1]; rfl) | (rw [hM3.1]; rfl)) dL_law_3220 rfl rfl (Nat.le_of_ble_eq_true rfl)) (jR.val (hR (d + 1) g1 m hM1 h31 hK1)) ?_
  intro g2 hc2 hm2
  obtain ⟨g3, T, e3, ag, c6, hM3, h33, F3⟩ := hc2
  subst e3
  obtain ⟨hJ2, F4⟩ := xJ.done st1 hK1 ho1 hoD1 hs1 ag hM3 h33 F3
  have hsz : xsz (xWith g3 m T) + xsl (xWith g3 m T) ≤ xsz h + xsl h + 46100 := by
    have := F1.2.2.2.1
    have := F4.2.2.2.1
    omega
  have t2o := hJ2.2.2.1.1
  have t2D := hJ2.2.2.2.1.1
  refine xw_icmp_eq (pc := 3223) 3272 dL_law_3223 rfl (fun hb3223 => ?_) (fun hb3223 => ?_)
  rotate_left
  · exfalso
    exact hb3223 rfl
  exact k _ _ hJ2 hsz
theorem LC_restore {d : Nat} {x m out outD sc len : Nat} {scr : Nat → Int32} {h : xG} {S : xMS} {i : Nat} (hJ : xJ x m out outD sc len scr h S) (hi : i + 6 ≤ len) (hl : len ≤ 144) {Q : Option Value ⊕ Nat → xG → Prop} (k : ∀ h' S', xJ x m out outD sc len scr h' S' → xsz h' + xsl h' ≤ xsz h + xsl h + 46100 → XW M_L_law (d + 92) 3272 [(0, .ref sc), (1, .ref x), (2, .ref m), (3, .ref out), (4, .ref outD), (5, .int (nI i))] [] h' Q) : XW M_L_law (d + 92) 3228 [(0, .ref sc), (1, .ref x), (2, .ref m), (3, .ref out), (4, .ref outD), (5, .int (nI i))] [] h Q := by
  obtain ⟨p_, lk_, fa_, ka_, la_, Z_, n_, rr_, ww_, dq_, da_, hh_, ps_, sv_, hp_⟩ := hJ.1.1.p
  have hx : xtag h x = 1 := hp_.M.tx
  have c1 := hJ.2.2.2.2.1
  have c3 := hJ.2.2.2.2.2.2.1
  have c4 := hJ.2.2.2.2.2.2.2
  have oo := hJ.2.2.1
  have oD := hJ.2.2.2.1
  obtain ⟨c, b, S', hc, hP, hR, hW⟩ := W_restore (out := out) hJ.1.1 hJ.1.2 hx oo
  refine xw_aload_n (pc := 3228) dL_law_3228 1 rfl ?_
  refine xw_aload_n (pc := 3229) dL_law_3229 3 rfl ?_
  refine xw_callF (pc := 3230) (xr_SX (as := [_, _]) ok_X0_restore rfl (by decide) q2227 q2228 dL_law_3230 rfl rfl (Nat.le_of_ble_eq_true rfl)) (hW d) ?_
  intro g1 hc1 hm1
  obtain ⟨st1, F1, w1⟩ := hc1
  refine xw_istore (l' := [(6, _), (0, _), (1, _), (2, _), (3, _), (4, _), (5, _)]) (pc := 3233) dL_law_3233 (by decide) rfl ?_
  obtain ⟨hK1, ⟨hM1, h31, he1⟩, ho1, hoD1, hs1⟩ := hJ.mid st1 F1 (by unfold oW; omega) (by unfold oW; omega)
  have tw1 : xtag (xWith g1 m S) sc = 101 := (he1.ti.1 sc).trans hs1.1
  have lw1 : xlen (xWith g1 m S) sc = len := (he1.ti.2.1 sc).trans hs1.2.2.1
  have iw1 : ∀ j, j < len → xi (xWith g1 m S) sc j = scr j := fun j hj => (he1.ti.2.2 sc j).trans (hs1.2.2.2 j hj)
  refine XW.eqv he1.symm ?_
  refine xw_aload_n (pc := 3235) dL_law_3235 3 rfl ?_
  refine xw_callF (pc := 3236) (xr_V (as := []) ok_X6_restore rfl (by decide) q2758 q2759 q2760 (by rw [xtag_with]; first | (rw [hM1.1]; rfl) | (rw [hM3.1]; rfl)) (by rw [xtag_with]; first | (rw [hM1.1]; rfl) | (rw [hM3.1]; rfl)) dL_law_3236 rfl rfl (Nat.le_of_ble_eq_true rfl)) (jR.val (hR (d + 1) g1 m hM1 h31 hK1)) ?_
  intro g2 hc2 hm2
  obtain ⟨g3, T, e3, ag, c6, hM3, h33, F3⟩ := hc2
  subst e3
  obtain ⟨hJ2, F4⟩ := xJ.done st1 hK1 ho1 hoD1 hs1 ag hM3 h33 F3
  have hsz : xsz (xWith g3 m T) + xsl (xWith g3 m T) ≤ xsz h + xsl h + 46100 := by
    have := F1.2.2.2.1
    have := F4.2.2.2.1
    omega
  have t2o := hJ2.2.2.1.1
  have t2D := hJ2.2.2.2.1.1
  refine xw_istore (l' := [(7, _), (6, _), (0, _), (1, _), (2, _), (3, _), (4, _), (5, _)]) (pc := 3239) dL_law_3239 (by decide) rfl ?_
  refine xw_aload_n (pc := 3241) dL_law_3241 4 rfl ?_
  refine xw_callV (pc := 3242) (xr_V (as := []) ok_X6_thrown rfl (by decide) q2352 q2353 q2354 (by rw [xtag_with]; first | (rw [hM1.1]; rfl) | (rw [hM3.1]; rfl)) (by rw [xtag_with]; first | (rw [hM1.1]; rfl) | (rw [hM3.1]; rfl)) dL_law_3242 rfl rfl (Nat.le_of_ble_eq_true rfl)) (by have z := SP_X6_thrown (d := d + 91) (S := T) hM3; rw [c6] at z; exact z) ?_
  refine xw_iload (pc := 3245) dL_law_3245 1 rfl ?_
  refine xw_icmp_eq (pc := 3247) 3252 dL_law_3247 rfl (fun hb3247 => ?_) (fun hb3247 => ?_)
  rotate_left
  · exfalso
    replace hb3247 : ¬ (c = c) := mt (nI_eq (a := c) (b := c) (by omega) (by omega)).mpr hb3247
    omega
  replace hb3247 : c = c := (nI_eq (a := c) (b := c) (by omega) (by omega)).mp hb3247
  refine xw_iload (pc := 3252) dL_law_3252 1 rfl ?_
  refine xw_if_ne (pc := 3254) 3269 dL_law_3254 rfl (fun hb3254 => ?_) (fun hb3254 => ?_)
  · replace hb3254 : ¬ (c = 0) := mt (nI_eq (a := c) (b := 0) (by omega) (by omega)).mpr hb3254
    refine xw_goto (pc := 3269) 3272 dL_law_3269 rfl ?_
    refine xw_pick (pc := 3272) (l' := [(0, _), (1, _), (2, _), (3, _), (4, _), (5, _)]) [2, 3, 4, 5, 6, 7] rfl ?_
    exact k _ _ hJ2 hsz
  · replace hb3254 : c = 0 := (nI_eq (a := c) (b := 0) (by omega) (by omega)).mp hb3254
    refine xw_aload_n (pc := 3257) dL_law_3257 5 rfl ?_
    refine xw_iconst (v := nI 0) (pc := 3258) dL_law_3258 rfl ?_
    have wE : xw (xWith g3 m T) out 0 = _ := (F4.w' (xlt (by rw [ho1.1]; decide)) (by rw [ho1.2.1]; unfold o313; omega)).trans (w1 hb3254)
    refine xw_lald (k := 0) (pc := 3259) dL_law_3259 (by simp [-List.getD_eq_getElem?_getD, xE_setI, xsz_setI, xsl_setI, xtag_setI, xown_setI, xlen_setI, xE_setR, xsz_setR, xsl_setR, xtag_setR, xown_setR, xlen_setR, xE_setW, xsz_setW, xsl_setW, xtag_setW, xown_setW, xlen_setW, xi_setR, xi_setW, xr_setI, xr_setW, xww_setI, xww_setR, xi_setI, xr_setR, xww_setW, xE_new, xsz_new, xsl_new, hx, c1, tw1, t2o, t2D]) rfl (by rw [hJ2.2.2.1.2.2]; decide) ?_
    rw [wE]
    refine xw_iload (pc := 3260) dL_law_3260 0 rfl ?_
    refine xw_i2l (pc := 3262) dL_law_3262 ?_
    refine xw_lcmp (pc := 3263) dL_law_3263 rfl ?_
    refine xw_if_eq (pc := 3264) 3269 dL_law_3264 rfl (fun hb3264 => ?_) (fun hb3264 => ?_)
    rotate_left
    · exfalso
      exact hb3264 lg_s
    refine xw_goto (pc := 3269) 3272 dL_law_3269 rfl ?_
    refine xw_pick (pc := 3272) (l' := [(0, _), (1, _), (2, _), (3, _), (4, _), (5, _)]) [2, 3, 4, 5, 6, 7] rfl ?_
    exact k _ _ hJ2 hsz
