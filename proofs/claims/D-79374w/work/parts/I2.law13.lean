/-! LAW 12, part 1 -/
set_option maxRecDepth 100000
theorem LC_chain {d : Nat} {x m out outD sc len : Nat} {scr : Nat → Int32} {h : xG} {S : xMS} {i : Nat} (hJ : xJ x m out outD sc len scr h S) (hi : i + 6 ≤ len) (hl : len ≤ 144) {Q : Option Value ⊕ Nat → xG → Prop} (k : ∀ h' S', xJ x m out outD sc len scr h' S' → xsz h' + xsl h' ≤ xsz h + xsl h + 46100 → XW M_L_law (d + 92) 3272 [(0, .ref sc), (1, .ref x), (2, .ref m), (3, .ref out), (4, .ref outD), (5, .int (nI i))] [] h' Q) : XW M_L_law (d + 92) 1464 [(0, .ref sc), (1, .ref x), (2, .ref m), (3, .ref out), (4, .ref outD), (5, .int (nI i))] [] h Q := by
  obtain ⟨p_, lk_, fa_, ka_, la_, Z_, n_, rr_, ww_, dq_, da_, hh_, ps_, sv_, hp_⟩ := hJ.1.1.p
  have hx : xtag h x = 1 := hp_.M.tx
  have c1 := hJ.2.2.2.2.1
  have c3 := hJ.2.2.2.2.2.2.1
  have c4 := hJ.2.2.2.2.2.2.2
  have oo := hJ.2.2.1
  have oD := hJ.2.2.2.1
  obtain ⟨c, b, S', hc, hP, hR, hW⟩ := W_chain (out := out) hJ.1.1 hJ.1.2 hx oo (p0 := scr (i + 1)) (p1 := scr (i + 2)) (p2 := scr (i + 3)) (p3 := scr (i + 4))
  refine xw_aload_n (pc := 1464) dL_law_1464 1 rfl ?_
  refine xw_aload_n (pc := 1465) dL_law_1465 0 rfl ?_
  refine xw_iload (pc := 1466) dL_law_1466 5 rfl ?_
  refine xw_iconst (v := nI 1) (pc := 1468) dL_law_1468 rfl ?_
  refine xn_iadd (pc := 1469) dL_law_1469 ?_
  refine xw_iald (k := (i + 1)) (pc := 1470) dL_law_1470 (by simp [-List.getD_eq_getElem?_getD, xE_setI, xsz_setI, xsl_setI, xtag_setI, xown_setI, xlen_setI, xE_setR, xsz_setR, xsl_setR, xtag_setR, xown_setR, xlen_setR, xE_setW, xsz_setW, xsl_setW, xtag_setW, xown_setW, xlen_setW, xi_setR, xi_setW, xr_setI, xr_setW, xww_setI, xww_setR, xi_setI, xr_setR, xww_setW, xE_new, xsz_new, xsl_new, hx, c1]) rfl (by rw [c3]; omega) ?_
  rw [c4 (i + 1) (by omega)]
  refine xw_aload_n (pc := 1471) dL_law_1471 0 rfl ?_
  refine xw_iload (pc := 1472) dL_law_1472 5 rfl ?_
  refine xw_iconst (v := nI 2) (pc := 1474) dL_law_1474 rfl ?_
  refine xn_iadd (pc := 1475) dL_law_1475 ?_
  refine xw_iald (k := (i + 2)) (pc := 1476) dL_law_1476 (by simp [-List.getD_eq_getElem?_getD, xE_setI, xsz_setI, xsl_setI, xtag_setI, xown_setI, xlen_setI, xE_setR, xsz_setR, xsl_setR, xtag_setR, xown_setR, xlen_setR, xE_setW, xsz_setW, xsl_setW, xtag_setW, xown_setW, xlen_setW, xi_setR, xi_setW, xr_setI, xr_setW, xww_setI, xww_setR, xi_setI, xr_setR, xww_setW, xE_new, xsz_new, xsl_new, hx, c1]) rfl (by rw [c3]; omega) ?_
  rw [c4 (i + 2) (by omega)]
  refine xw_aload_n (pc := 1477) dL_law_1477 0 rfl ?_
  refine xw_iload (pc := 1478) dL_law_1478 5 rfl ?_
  refine xw_iconst (v := nI 3) (pc := 1480) dL_law_1480 rfl ?_
  refine xn_iadd (pc := 1481) dL_law_1481 ?_
  refine xw_iald (k := (i + 3)) (pc := 1482) dL_law_1482 (by simp [-List.getD_eq_getElem?_getD, xE_setI, xsz_setI, xsl_setI, xtag_setI, xown_setI, xlen_setI, xE_setR, xsz_setR, xsl_setR, xtag_setR, xown_setR, xlen_setR, xE_setW, xsz_setW, xsl_setW, xtag_setW, xown_setW, xlen_setW, xi_setR, xi_setW, xr_setI, xr_setW, xww_setI, xww_setR, xi_setI, xr_setR, xww_setW, xE_new, xsz_new, xsl_new, hx, c1]) rfl (by rw [c3]; omega) ?_
  rw [c4 (i + 3) (by omega)]
  refine xw_aload_n (pc := 1483) dL_law_1483 0 rfl ?_
  refine xw_iload (pc := 1484) dL_law_1484 5 rfl ?_
  refine xw_iconst (v := nI 4) (pc := 1486) dL_law_1486 rfl ?_
  refine xn_iadd (pc := 1487) dL_law_1487 ?_
  refine xw_iald (k := (i + 4)) (pc := 1488) dL_law_1488 (by simp [-List.getD_eq_getElem?_getD, xE_setI, xsz_setI, xsl_setI, xtag_setI, xown_setI, xlen_setI, xE_setR, xsz_setR, xsl_setR, xtag_setR, xown_setR, xlen_setR, xE_setW, xsz_setW, xsl_setW, xtag_setW, xown_setW, xlen_setW, xi_setR, xi_setW, xr_setI, xr_setW, xww_setI, xww_setR, xi_setI, xr_setR, xww_setW, xE_new, xsz_new, xsl_new, hx, c1]) rfl (by rw [c3]; omega) ?_
  rw [c4 (i + 4) (by omega)]
  refine xw_aload_n (pc := 1489) dL_law_1489 3 rfl ?_
  refine xw_callF (pc := 1490) (xr_SX (as := [_, _, _, _, _, _]) ok_X0_chain rfl (by decide) q1551 q1552 dL_law_1490 rfl rfl (Nat.le_of_ble_eq_true rfl)) (hW d) ?_
  intro g1 hc1 hm1
  obtain ⟨st1, F1, w1⟩ := hc1
  refine xw_istore (l' := [(6, _), (0, _), (1, _), (2, _), (3, _), (4, _), (5, _)]) (pc := 1493) dL_law_1493 (by decide) rfl ?_
  obtain ⟨hK1, ⟨hM1, h31, he1⟩, ho1, hoD1, hs1⟩ := hJ.mid st1 F1 (by unfold oW; omega) (by unfold oW; omega)
  have tw1 : xtag (xWith g1 m S) sc = 101 := (he1.ti.1 sc).trans hs1.1
  have lw1 : xlen (xWith g1 m S) sc = len := (he1.ti.2.1 sc).trans hs1.2.2.1
  have iw1 : ∀ j, j < len → xi (xWith g1 m S) sc j = scr j := fun j hj => (he1.ti.2.2 sc j).trans (hs1.2.2.2 j hj)
  refine XW.eqv he1.symm ?_
  refine xw_aload_n (pc := 1495) dL_law_1495 3 rfl ?_
  refine xw_aload_n (pc := 1496) dL_law_1496 1 rfl ?_
  refine xw_iload (pc := 1497) dL_law_1497 6 rfl ?_
  refine xw_iconst (v := nI 1) (pc := 1499) dL_law_1499 rfl ?_
  refine xn_iadd (pc := 1500) dL_law_1500 ?_
  refine xw_iald (k := (i + 1)) (pc := 1501) dL_law_1501 (by simp [-List.getD_eq_getElem?_getD, xE_setI, xsz_setI, xsl_setI, xtag_setI, xown_setI, xlen_setI, xE_setR, xsz_setR, xsl_setR, xtag_setR, xown_setR, xlen_setR, xE_setW, xsz_setW, xsl_setW, xtag_setW, xown_setW, xlen_setW, xi_setR, xi_setW, xr_setI, xr_setW, xww_setI, xww_setR, xi_setI, xr_setR, xww_setW, xE_new, xsz_new, xsl_new, hx, c1, tw1]) rfl (by rw [lw1]; omega) ?_
  rw [iw1 (i + 1) (by omega)]
  refine xw_aload_n (pc := 1502) dL_law_1502 1 rfl ?_
  refine xw_iload (pc := 1503) dL_law_1503 6 rfl ?_
  refine xw_iconst (v := nI 2) (pc := 1505) dL_law_1505 rfl ?_
  refine xn_iadd (pc := 1506) dL_law_1506 ?_
  refine xw_iald (k := (i + 2)) (pc := 1507) dL_law_1507 (by simp [-List.getD_eq_getElem?_getD, xE_setI, xsz_setI, xsl_setI, xtag_setI, xown_setI, xlen_setI, xE_setR, xsz_setR, xsl_setR, xtag_setR, xown_setR, xlen_setR, xE_setW, xsz_setW, xsl_setW, xtag_setW, xown_setW, xlen_setW, xi_setR, xi_setW, xr_setI, xr_setW, xww_setI, xww_setR, xi_setI, xr_setR, xww_setW, xE_new, xsz_new, xsl_new, hx, c1, tw1]) rfl (by rw [lw1]; omega) ?_
  rw [iw1 (i + 2) (by omega)]
  refine xw_aload_n (pc := 1508) dL_law_1508 1 rfl ?_
  refine xw_iload (pc := 1509) dL_law_1509 6 rfl ?_
  refine xw_iconst (v := nI 3) (pc := 1511) dL_law_1511 rfl ?_
  refine xn_iadd (pc := 1512) dL_law_1512 ?_
  refine xw_iald (k := (i + 3)) (pc := 1513) dL_law_1513 (by simp [-List.getD_eq_getElem?_getD, xE_setI, xsz_setI, xsl_setI, xtag_setI, xown_setI, xlen_setI, xE_setR, xsz_setR, xsl_setR, xtag_setR, xown_setR, xlen_setR, xE_setW, xsz_setW, xsl_setW, xtag_setW, xown_setW, xlen_setW, xi_setR, xi_setW, xr_setI, xr_setW, xww_setI, xww_setR, xi_setI, xr_setR, xww_setW, xE_new, xsz_new, xsl_new, hx, c1, tw1]) rfl (by rw [lw1]; omega) ?_
  rw [iw1 (i + 3) (by omega)]
  refine xw_aload_n (pc := 1514) dL_law_1514 1 rfl ?_
  refine xw_iload (pc := 1515) dL_law_1515 6 rfl ?_
  refine xw_iconst (v := nI 4) (pc := 1517) dL_law_1517 rfl ?_
  refine xn_iadd (pc := 1518) dL_law_1518 ?_
  refine xw_iald (k := (i + 4)) (pc := 1519) dL_law_1519 (by simp [-List.getD_eq_getElem?_getD, xE_setI, xsz_setI, xsl_setI, xtag_setI, xown_setI, xlen_setI, xE_setR, xsz_setR, xsl_setR, xtag_setR, xown_setR, xlen_setR, xE_setW, xsz_setW, xsl_setW, xtag_setW, xown_setW, xlen_setW, xi_setR, xi_setW, xr_setI, xr_setW, xww_setI, xww_setR, xi_setI, xr_setR, xww_setW, xE_new, xsz_new, xsl_new, hx, c1, tw1]) rfl (by rw [lw1]; omega) ?_
  rw [iw1 (i + 4) (by omega)]
  refine xw_callF (pc := 1520) (xr_V (as := [_, _, _, _]) ok_X6_chain rfl (by decide) q2544 q2545 q2546 (by rw [xtag_with]; first | (rw [hM1.1]; rfl) | (rw [hM3.1]; rfl)) (by rw [xtag_with]; first | (rw [hM1.1]; rfl) | (rw [hM3.1]; rfl)) dL_law_1520 rfl rfl (Nat.le_of_ble_eq_true rfl)) (jR.val (hR (d + 1) g1 m hM1 h31 hK1)) ?_
  intro g2 hc2 hm2
  obtain ⟨g3, T, e3, ag, c6, hM3, h33, F3⟩ := hc2
  subst e3
  obtain ⟨hJ2, F4⟩ := xJ.done st1 hK1 ho1 hoD1 hs1 ag hM3 h33 F3
  have hsz : xsz (xWith g3 m T) + xsl (xWith g3 m T) ≤ xsz h + xsl h + 46100 := by
    have := F1.2.2.2.1
    have := F4.2.2.2.1
    omega
  have t2o := hJ2.2.2.1.1
  have t2D := hJ2.2.2.2.1.1
  refine xw_istore (l' := [(7, _), (6, _), (0, _), (1, _), (2, _), (3, _), (4, _), (5, _)]) (pc := 1523) dL_law_1523 (by decide) rfl ?_
  refine xw_aload_n (pc := 1525) dL_law_1525 4 rfl ?_
  refine xw_callV (pc := 1526) (xr_V (as := []) ok_X6_thrown rfl (by decide) q2352 q2353 q2354 (by rw [xtag_with]; first | (rw [hM1.1]; rfl) | (rw [hM3.1]; rfl)) (by rw [xtag_with]; first | (rw [hM1.1]; rfl) | (rw [hM3.1]; rfl)) dL_law_1526 rfl rfl (Nat.le_of_ble_eq_true rfl)) (by have z := SP_X6_thrown (d := d + 91) (S := T) hM3; rw [c6] at z; exact z) ?_
  refine xw_iload (pc := 1529) dL_law_1529 1 rfl ?_
  refine xw_icmp_eq (pc := 1531) 1536 dL_law_1531 rfl (fun hb1531 => ?_) (fun hb1531 => ?_)
  rotate_left
  · exfalso
    replace hb1531 : ¬ (c = c) := mt (nI_eq (a := c) (b := c) (by omega) (by omega)).mpr hb1531
    omega
  replace hb1531 : c = c := (nI_eq (a := c) (b := c) (by omega) (by omega)).mp hb1531
  refine xw_iload (pc := 1536) dL_law_1536 1 rfl ?_
  refine xw_if_ne (pc := 1538) 1553 dL_law_1538 rfl (fun hb1538 => ?_) (fun hb1538 => ?_)
  · replace hb1538 : ¬ (c = 0) := mt (nI_eq (a := c) (b := 0) (by omega) (by omega)).mpr hb1538
    refine xw_goto (pc := 1553) 3272 dL_law_1553 rfl ?_
    refine xw_pick (pc := 3272) (l' := [(0, _), (1, _), (2, _), (3, _), (4, _), (5, _)]) [2, 3, 4, 5, 6, 7] rfl ?_
    exact k _ _ hJ2 hsz
  · replace hb1538 : c = 0 := (nI_eq (a := c) (b := 0) (by omega) (by omega)).mp hb1538
    refine xw_aload_n (pc := 1541) dL_law_1541 5 rfl ?_
    refine xw_iconst (v := nI 0) (pc := 1542) dL_law_1542 rfl ?_
    have wE : xw (xWith g3 m T) out 0 = _ := (F4.w' (xlt (by rw [ho1.1]; decide)) (by rw [ho1.2.1]; unfold o313; omega)).trans (w1 hb1538)
    refine xw_lald (k := 0) (pc := 1543) dL_law_1543 (by simp [-List.getD_eq_getElem?_getD, xE_setI, xsz_setI, xsl_setI, xtag_setI, xown_setI, xlen_setI, xE_setR, xsz_setR, xsl_setR, xtag_setR, xown_setR, xlen_setR, xE_setW, xsz_setW, xsl_setW, xtag_setW, xown_setW, xlen_setW, xi_setR, xi_setW, xr_setI, xr_setW, xww_setI, xww_setR, xi_setI, xr_setR, xww_setW, xE_new, xsz_new, xsl_new, hx, c1, tw1, t2o, t2D]) rfl (by rw [hJ2.2.2.1.2.2]; decide) ?_
    rw [wE]
    refine xw_iload (pc := 1544) dL_law_1544 0 rfl ?_
    refine xw_i2l (pc := 1546) dL_law_1546 ?_
    refine xw_lcmp (pc := 1547) dL_law_1547 rfl ?_
    refine xw_if_eq (pc := 1548) 1553 dL_law_1548 rfl (fun hb1548 => ?_) (fun hb1548 => ?_)
    rotate_left
    · exfalso
      exact hb1548 lg_s
    refine xw_goto (pc := 1553) 3272 dL_law_1553 rfl ?_
    refine xw_pick (pc := 3272) (l' := [(0, _), (1, _), (2, _), (3, _), (4, _), (5, _)]) [2, 3, 4, 5, 6, 7] rfl ?_
    exact k _ _ hJ2 hsz
theorem LC_rival {d : Nat} {x m out outD sc len : Nat} {scr : Nat → Int32} {h : xG} {S : xMS} {i : Nat} (hJ : xJ x m out outD sc len scr h S) (hi : i + 6 ≤ len) (hl : len ≤ 144) {Q : Option Value ⊕ Nat → xG → Prop} (k : ∀ h' S', xJ x m out outD sc len scr h' S' → xsz h' + xsl h' ≤ xsz h + xsl h + 46100 → XW M_L_law (d + 92) 3272 [(0, .ref sc), (1, .ref x), (2, .ref m), (3, .ref out), (4, .ref outD), (5, .int (nI i))] [] h' Q) : XW M_L_law (d + 92) 1556 [(0, .ref sc), (1, .ref x), (2, .ref m), (3, .ref out), (4, .ref outD), (5, .int (nI i))] [] h Q := by
  obtain ⟨p_, lk_, fa_, ka_, la_, Z_, n_, rr_, ww_, dq_, da_, hh_, ps_, sv_, hp_⟩ := hJ.1.1.p
  have hx : xtag h x = 1 := hp_.M.tx
  have c1 := hJ.2.2.2.2.1
  have c3 := hJ.2.2.2.2.2.2.1
  have c4 := hJ.2.2.2.2.2.2.2
  have oo := hJ.2.2.1
  have oD := hJ.2.2.2.1
  obtain ⟨c, b, S', hc, hP, hR, hW⟩ := W_rival (out := out) hJ.1.1 hJ.1.2 hx oo (p0 := scr (i + 1)) (p1 := scr (i + 2)) (p2 := scr (i + 3)) (p3 := scr (i + 4))
  refine xw_aload_n (pc := 1556) dL_law_1556 1 rfl ?_
  refine xw_aload_n (pc := 1557) dL_law_1557 0 rfl ?_
  refine xw_iload (pc := 1558) dL_law_1558 5 rfl ?_
  refine xw_iconst (v := nI 1) (pc := 1560) dL_law_1560 rfl ?_
  refine xn_iadd (pc := 1561) dL_law_1561 ?_
  refine xw_iald (k := (i + 1)) (pc := 1562) dL_law_1562 (by simp [-List.getD_eq_getElem?_getD, xE_setI, xsz_setI, xsl_setI, xtag_setI, xown_setI, xlen_setI, xE_setR, xsz_setR, xsl_setR, xtag_setR, xown_setR, xlen_setR, xE_setW, xsz_setW, xsl_setW, xtag_setW, xown_setW, xlen_setW, xi_setR, xi_setW, xr_setI, xr_setW, xww_setI, xww_setR, xi_setI, xr_setR, xww_setW, xE_new, xsz_new, xsl_new, hx, c1]) rfl (by rw [c3]; omega) ?_
  rw [c4 (i + 1) (by omega)]
  refine xw_aload_n (pc := 1563) dL_law_1563 0 rfl ?_
  refine xw_iload (pc := 1564) dL_law_1564 5 rfl ?_
  refine xw_iconst (v := nI 2) (pc := 1566) dL_law_1566 rfl ?_
  refine xn_iadd (pc := 1567) dL_law_1567 ?_
  refine xw_iald (k := (i + 2)) (pc := 1568) dL_law_1568 (by simp [-List.getD_eq_getElem?_getD, xE_setI, xsz_setI, xsl_setI, xtag_setI, xown_setI, xlen_setI, xE_setR, xsz_setR, xsl_setR, xtag_setR, xown_setR, xlen_setR, xE_setW, xsz_setW, xsl_setW, xtag_setW, xown_setW, xlen_setW, xi_setR, xi_setW, xr_setI, xr_setW, xww_setI, xww_setR, xi_setI, xr_setR, xww_setW, xE_new, xsz_new, xsl_new, hx, c1]) rfl (by rw [c3]; omega) ?_
  rw [c4 (i + 2) (by omega)]
  refine xw_aload_n (pc := 1569) dL_law_1569 0 rfl ?_
  refine xw_iload (pc := 1570) dL_law_1570 5 rfl ?_
  refine xw_iconst (v := nI 3) (pc := 1572) dL_law_1572 rfl ?_
  refine xn_iadd (pc := 1573) dL_law_1573 ?_
  refine xw_iald (k := (i + 3)) (pc := 1574) dL_law_1574 (by simp [-List.getD_eq_getElem?_getD, xE_setI, xsz_setI, xsl_setI, xtag_setI, xown_setI, xlen_setI, xE_setR, xsz_setR, xsl_setR, xtag_setR, xown_setR, xlen_setR, xE_setW, xsz_setW, xsl_setW, xtag_setW, xown_setW, xlen_setW, xi_setR, xi_setW, xr_setI, xr_setW, xww_setI, xww_setR, xi_setI, xr_setR, xww_setW, xE_new, xsz_new, xsl_new, hx, c1]) rfl (by rw [c3]; omega) ?_
  rw [c4 (i + 3) (by omega)]
  refine xw_aload_n (pc := 1575) dL_law_1575 0 rfl ?_
  refine xw_iload (pc := 1576) dL_law_1576 5 rfl ?_
  refine xw_iconst (v := nI 4) (pc := 1578) dL_law_1578 rfl ?_
  refine xn_iadd (pc := 1579) dL_law_1579 ?_
  refine xw_iald (k := (i + 4)) (pc := 1580) dL_law_1580 (by simp [-List.getD_eq_getElem?_getD, xE_setI, xsz_setI, xsl_setI, xtag_setI, xown_setI, xlen_setI, xE_setR, xsz_setR, xsl_setR, xtag_setR, xown_setR, xlen_setR, xE_setW, xsz_setW, xsl_setW, xtag_setW, xown_setW, xlen_setW, xi_setR, xi_setW, xr_setI, xr_setW, xww_setI, xww_setR, xi_setI, xr_setR, xww_setW, xE_new, xsz_new, xsl_new, hx, c1]) rfl (by rw [c3]; omega) ?_
  rw [c4 (i + 4) (by omega)]
  refine xw_aload_n (pc := 1581) dL_law_1581 3 rfl ?_
  refine xw_callF (pc := 1582) (xr_SX (as := [_, _, _, _, _, _]) ok_X0_rival rfl (by decide) q1563 q1564 dL_law_1582 rfl rfl (Nat.le_of_ble_eq_true rfl)) (hW d) ?_
  intro g1 hc1 hm1
  obtain ⟨st1, F1, w1⟩ := hc1
  refine xw_istore (l' := [(6, _), (0, _), (1, _), (2, _), (3, _), (4, _), (5, _)]) (pc := 1585) dL_law_1585 (by decide) rfl ?_
  obtain ⟨hK1, ⟨hM1, h31, he1⟩, ho1, hoD1, hs1⟩ := hJ.mid st1 F1 (by unfold oW; omega) (by unfold oW; omega)
  have tw1 : xtag (xWith g1 m S) sc = 101 := (he1.ti.1 sc).trans hs1.1
  have lw1 : xlen (xWith g1 m S) sc = len := (he1.ti.2.1 sc).trans hs1.2.2.1
  have iw1 : ∀ j, j < len → xi (xWith g1 m S) sc j = scr j := fun j hj => (he1.ti.2.2 sc j).trans (hs1.2.2.2 j hj)
  refine XW.eqv he1.symm ?_
  refine xw_aload_n (pc := 1587) dL_law_1587 3 rfl ?_
  refine xw_aload_n (pc := 1588) dL_law_1588 1 rfl ?_
  refine xw_iload (pc := 1589) dL_law_1589 6 rfl ?_
  refine xw_iconst (v := nI 1) (pc := 1591) dL_law_1591 rfl ?_
  refine xn_iadd (pc := 1592) dL_law_1592 ?_
  refine xw_iald (k := (i + 1)) (pc := 1593) dL_law_1593 (by simp [-List.getD_eq_getElem?_getD, xE_setI, xsz_setI, xsl_setI, xtag_setI, xown_setI, xlen_setI, xE_setR, xsz_setR, xsl_setR, xtag_setR, xown_setR, xlen_setR, xE_setW, xsz_setW, xsl_setW, xtag_setW, xown_setW, xlen_setW, xi_setR, xi_setW, xr_setI, xr_setW, xww_setI, xww_setR, xi_setI, xr_setR, xww_setW, xE_new, xsz_new, xsl_new, hx, c1, tw1]) rfl (by rw [lw1]; omega) ?_
  rw [iw1 (i + 1) (by omega)]
  refine xw_aload_n (pc := 1594) dL_law_1594 1 rfl ?_
  refine xw_iload (pc := 1595) dL_law_1595 6 rfl ?_
  refine xw_iconst (v := nI 2) (pc := 1597) dL_law_1597 rfl ?_
  refine xn_iadd (pc := 1598) dL_law_1598 ?_
  refine xw_iald (k := (i + 2)) (pc := 1599) dL_law_1599 (by simp [-List.getD_eq_getElem?_getD, xE_setI, xsz_setI, xsl_setI, xtag_setI, xown_setI, xlen_setI, xE_setR, xsz_setR, xsl_setR, xtag_setR, xown_setR, xlen_setR, xE_setW, xsz_setW, xsl_setW, xtag_setW, xown_setW, xlen_setW, xi_setR, xi_setW, xr_setI, xr_setW, xww_setI, xww_setR, xi_setI, xr_setR, xww_setW, xE_new, xsz_new, xsl_new, hx, c1, tw1]) rfl (by rw [lw1]; omega) ?_
  rw [iw1 (i + 2) (by omega)]
  refine xw_aload_n (pc := 1600) dL_law_1600 1 rfl ?_
  refine xw_iload (pc := 1601) dL_law_1601 6 rfl ?_
  refine xw_iconst (v := nI 3) (pc := 1603) dL_law_1603 rfl ?_
  refine xn_iadd (pc := 1604) dL_law_1604 ?_
  refine xw_iald (k := (i + 3)) (pc := 1605) dL_law_1605 (by simp [-List.getD_eq_getElem?_getD, xE_setI, xsz_setI, xsl_setI, xtag_setI, xown_setI, xlen_setI, xE_setR, xsz_setR, xsl_setR, xtag_setR, xown_setR, xlen_setR, xE_setW, xsz_setW, xsl_setW, xtag_setW, xown_setW, xlen_setW, xi_setR, xi_setW, xr_setI, xr_setW, xww_setI, xww_setR, xi_setI, xr_setR, xww_setW, xE_new, xsz_new, xsl_new, hx, c1, tw1]) rfl (by rw [lw1]; omega) ?_
  rw [iw1 (i + 3) (by omega)]
  refine xw_aload_n (pc := 1606) dL_law_1606 1 rfl ?_
  refine xw_iload (pc := 1607) dL_law_1607 6 rfl ?_
  refine xw_iconst (v := nI 4) (pc := 1609) dL_law_1609 rfl ?_
  refine xn_iadd (pc := 1610) dL_law_1610 ?_
  refine xw_iald (k := (i + 4)) (pc := 1611) dL_law_1611 (by simp [-List.getD_eq_getElem?_getD, xE_setI, xsz_setI, xsl_setI, xtag_setI, xown_setI, xlen_setI, xE_setR, xsz_setR, xsl_setR, xtag_setR, xown_setR, xlen_setR, xE_setW, xsz_setW, xsl_setW, xtag_setW, xown_setW, xlen_setW, xi_setR, xi_setW, xr_setI, xr_setW, xww_setI, xww_setR, xi_setI, xr_setR, xww_setW, xE_new, xsz_new, xsl_new, hx, c1, tw1]) rfl (by rw [lw1]; omega) ?_
  rw [iw1 (i + 4) (by omega)]
  refine xw_callF (pc := 1612) (xr_V (as := [_, _, _, _]) ok_X6_rival rfl (by decide) q2556 q2557 q2558 (by rw [xtag_with]; first | (rw [hM1.1]; rfl) | (rw [hM3.1]; rfl)) (by rw [xtag_with]; first | (rw [hM1.1]; rfl) | (rw [hM3.1]; rfl)) dL_law_1612 rfl rfl (Nat.le_of_ble_eq_true rfl)) (jR.val (hR (d + 1) g1 m hM1 h31 hK1)) ?_
  intro g2 hc2 hm2
  obtain ⟨g3, T, e3, ag, c6, hM3, h33, F3⟩ := hc2
  subst e3
  obtain ⟨hJ2, F4⟩ := xJ.done st1 hK1 ho1 hoD1 hs1 ag hM3 h33 F3
  have hsz : xsz (xWith g3 m T) + xsl (xWith g3 m T) ≤ xsz h + xsl h + 46100 := by
    have := F1.2.2.2.1
    have := F4.2.2.2.1
    omega
  have t2o := hJ2.2.2.1.1
  have t2D := hJ2.2.2.2.1.1
  refine xw_istore (l' := [(7, _), (6, _), (0, _), (1, _), (2, _), (3, _), (4, _), (5, _)]) (pc := 1615) dL_law_1615 (by decide) rfl ?_
  refine xw_aload_n (pc := 1617) dL_law_1617 4 rfl ?_
  refine xw_callV (pc := 1618) (xr_V (as := []) ok_X6_thrown rfl (by decide) q2352 q2353 q2354 (by rw [xtag_with]; first | (rw [hM1.1]; rfl) | (rw [hM3.1]; rfl)) (by rw [xtag_with]; first | (rw [hM1.1]; rfl) | (rw [hM3.1]; rfl)) dL_law_1618 rfl rfl (Nat.le_of_ble_eq_true rfl)) (by have z := SP_X6_thrown (d := d + 91) (S := T) hM3; rw [c6] at z; exact z) ?_
  refine xw_iload (pc := 1621) dL_law_1621 1 rfl ?_
  refine xw_icmp_eq (pc := 1623) 1628 dL_law_1623 rfl (fun hb1623 => ?_) (fun hb1623 => ?_)
  rotate_left
  · exfalso
    replace hb1623 : ¬ (c = c) := mt (nI_eq (a := c) (b := c) (by omega) (by omega)).mpr hb1623
    omega
  replace hb1623 : c = c := (nI_eq (a := c) (b := c) (by omega) (by omega)).mp hb1623
  refine xw_iload (pc := 1628) dL_law_1628 1 rfl ?_
  refine xw_if_ne (pc := 1630) 1645 dL_law_1630 rfl (fun hb1630 => ?_) (fun hb1630 => ?_)
  · replace hb1630 : ¬ (c = 0) := mt (nI_eq (a := c) (b := 0) (by omega) (by omega)).mpr hb1630
    refine xw_goto (pc := 1645) 3272 dL_law_1645 rfl ?_
    refine xw_pick (pc := 3272) (l' := [(0, _), (1, _), (2, _), (3, _), (4, _), (5, _)]) [2, 3, 4, 5, 6, 7] rfl ?_
    exact k _ _ hJ2 hsz
  · replace hb1630 : c = 0 := (nI_eq (a := c) (b := 0) (by omega) (by omega)).mp hb1630
    refine xw_aload_n (pc := 1633) dL_law_1633 5 rfl ?_
    refine xw_iconst (v := nI 0) (pc := 1634) dL_law_1634 rfl ?_
    have wE : xw (xWith g3 m T) out 0 = _ := (F4.w' (xlt (by rw [ho1.1]; decide)) (by rw [ho1.2.1]; unfold o313; omega)).trans (w1 hb1630)
    refine xw_lald (k := 0) (pc := 1635) dL_law_1635 (by simp [-List.getD_eq_getElem?_getD, xE_setI, xsz_setI, xsl_setI, xtag_setI, xown_setI, xlen_setI, xE_setR, xsz_setR, xsl_setR, xtag_setR, xown_setR, xlen_setR, xE_setW, xsz_setW, xsl_setW, xtag_setW, xown_setW, xlen_setW, xi_setR, xi_setW, xr_setI, xr_setW, xww_setI, xww_setR, xi_setI, xr_setR, xww_setW, xE_new, xsz_new, xsl_new, hx, c1, tw1, t2o, t2D]) rfl (by rw [hJ2.2.2.1.2.2]; decide) ?_
    rw [wE]
    refine xw_iload (pc := 1636) dL_law_1636 0 rfl ?_
    refine xw_i2l (pc := 1638) dL_law_1638 ?_
    refine xw_lcmp (pc := 1639) dL_law_1639 rfl ?_
    refine xw_if_eq (pc := 1640) 1645 dL_law_1640 rfl (fun hb1640 => ?_) (fun hb1640 => ?_)
    rotate_left
    · exfalso
      exact hb1640 lg_s
    refine xw_goto (pc := 1645) 3272 dL_law_1645 rfl ?_
    refine xw_pick (pc := 3272) (l' := [(0, _), (1, _), (2, _), (3, _), (4, _), (5, _)]) [2, 3, 4, 5, 6, 7] rfl ?_
    exact k _ _ hJ2 hsz
theorem LC_nextChange {d : Nat} {x m out outD sc len : Nat} {scr : Nat → Int32} {h : xG} {S : xMS} {i : Nat} (hJ : xJ x m out outD sc len scr h S) (hi : i + 6 ≤ len) (hl : len ≤ 144) {Q : Option Value ⊕ Nat → xG → Prop} (k : ∀ h' S', xJ x m out outD sc len scr h' S' → xsz h' + xsl h' ≤ xsz h + xsl h + 46100 → XW M_L_law (d + 92) 3272 [(0, .ref sc), (1, .ref x), (2, .ref m), (3, .ref out), (4, .ref outD), (5, .int (nI i))] [] h' Q) : XW M_L_law (d + 92) 1648 [(0, .ref sc), (1, .ref x), (2, .ref m), (3, .ref out), (4, .ref outD), (5, .int (nI i))] [] h Q := by
  obtain ⟨p_, lk_, fa_, ka_, la_, Z_, n_, rr_, ww_, dq_, da_, hh_, ps_, sv_, hp_⟩ := hJ.1.1.p
  have hx : xtag h x = 1 := hp_.M.tx
  have c1 := hJ.2.2.2.2.1
  have c3 := hJ.2.2.2.2.2.2.1
  have c4 := hJ.2.2.2.2.2.2.2
  have oo := hJ.2.2.1
  have oD := hJ.2.2.2.1
  obtain ⟨c, b, S', hc, hP, hR, hW⟩ := W_nextChange (out := out) hJ.1.1 hJ.1.2 hx oo (p0 := scr (i + 1)) (p1 := scr (i + 2)) (p2 := scr (i + 3))
  refine xw_aload_n (pc := 1648) dL_law_1648 1 rfl ?_
  refine xw_aload_n (pc := 1649) dL_law_1649 0 rfl ?_
  refine xw_iload (pc := 1650) dL_law_1650 5 rfl ?_
  refine xw_iconst (v := nI 1) (pc := 1652) dL_law_1652 rfl ?_
  refine xn_iadd (pc := 1653) dL_law_1653 ?_
  refine xw_iald (k := (i + 1)) (pc := 1654) dL_law_1654 (by simp [-List.getD_eq_getElem?_getD, xE_setI, xsz_setI, xsl_setI, xtag_setI, xown_setI, xlen_setI, xE_setR, xsz_setR, xsl_setR, xtag_setR, xown_setR, xlen_setR, xE_setW, xsz_setW, xsl_setW, xtag_setW, xown_setW, xlen_setW, xi_setR, xi_setW, xr_setI, xr_setW, xww_setI, xww_setR, xi_setI, xr_setR, xww_setW, xE_new, xsz_new, xsl_new, hx, c1]) rfl (by rw [c3]; omega) ?_
  rw [c4 (i + 1) (by omega)]
  refine xw_aload_n (pc := 1655) dL_law_1655 0 rfl ?_
  refine xw_iload (pc := 1656) dL_law_1656 5 rfl ?_
  refine xw_iconst (v := nI 2) (pc := 1658) dL_law_1658 rfl ?_
  refine xn_iadd (pc := 1659) dL_law_1659 ?_
  refine xw_iald (k := (i + 2)) (pc := 1660) dL_law_1660 (by simp [-List.getD_eq_getElem?_getD, xE_setI, xsz_setI, xsl_setI, xtag_setI, xown_setI, xlen_setI, xE_setR, xsz_setR, xsl_setR, xtag_setR, xown_setR, xlen_setR, xE_setW, xsz_setW, xsl_setW, xtag_setW, xown_setW, xlen_setW, xi_setR, xi_setW, xr_setI, xr_setW, xww_setI, xww_setR, xi_setI, xr_setR, xww_setW, xE_new, xsz_new, xsl_new, hx, c1]) rfl (by rw [c3]; omega) ?_
  rw [c4 (i + 2) (by omega)]
  refine xw_aload_n (pc := 1661) dL_law_1661 0 rfl ?_
  refine xw_iload (pc := 1662) dL_law_1662 5 rfl ?_
  refine xw_iconst (v := nI 3) (pc := 1664) dL_law_1664 rfl ?_
  refine xn_iadd (pc := 1665) dL_law_1665 ?_
  refine xw_iald (k := (i + 3)) (pc := 1666) dL_law_1666 (by simp [-List.getD_eq_getElem?_getD, xE_setI, xsz_setI, xsl_setI, xtag_setI, xown_setI, xlen_setI, xE_setR, xsz_setR, xsl_setR, xtag_setR, xown_setR, xlen_setR, xE_setW, xsz_setW, xsl_setW, xtag_setW, xown_setW, xlen_setW, xi_setR, xi_setW, xr_setI, xr_setW, xww_setI, xww_setR, xi_setI, xr_setR, xww_setW, xE_new, xsz_new, xsl_new, hx, c1]) rfl (by rw [c3]; omega) ?_
  rw [c4 (i + 3) (by omega)]
  refine xw_aload_n (pc := 1667) dL_law_1667 3 rfl ?_
  refine xw_callF (pc := 1668) (xr_SX (as := [_, _, _, _, _]) ok_X0_nextChange rfl (by decide) q1585 q1586 dL_law_1668 rfl rfl (Nat.le_of_ble_eq_true rfl)) (hW d) ?_
  intro g1 hc1 hm1
  obtain ⟨st1, F1, w1⟩ := hc1
  refine xw_istore (l' := [(6, _), (0, _), (1, _), (2, _), (3, _), (4, _), (5, _)]) (pc := 1671) dL_law_1671 (by decide) rfl ?_
  obtain ⟨hK1, ⟨hM1, h31, he1⟩, ho1, hoD1, hs1⟩ := hJ.mid st1 F1 (by unfold oW; omega) (by unfold oW; omega)
  have tw1 : xtag (xWith g1 m S) sc = 101 := (he1.ti.1 sc).trans hs1.1
  have lw1 : xlen (xWith g1 m S) sc = len := (he1.ti.2.1 sc).trans hs1.2.2.1
  have iw1 : ∀ j, j < len → xi (xWith g1 m S) sc j = scr j := fun j hj => (he1.ti.2.2 sc j).trans (hs1.2.2.2 j hj)
  refine XW.eqv he1.symm ?_
  refine xw_aload_n (pc := 1673) dL_law_1673 3 rfl ?_
  refine xw_aload_n (pc := 1674) dL_law_1674 1 rfl ?_
  refine xw_iload (pc := 1675) dL_law_1675 6 rfl ?_
  refine xw_iconst (v := nI 1) (pc := 1677) dL_law_1677 rfl ?_
  refine xn_iadd (pc := 1678) dL_law_1678 ?_
  refine xw_iald (k := (i + 1)) (pc := 1679) dL_law_1679 (by simp [-List.getD_eq_getElem?_getD, xE_setI, xsz_setI, xsl_setI, xtag_setI, xown_setI, xlen_setI, xE_setR, xsz_setR, xsl_setR, xtag_setR, xown_setR, xlen_setR, xE_setW, xsz_setW, xsl_setW, xtag_setW, xown_setW, xlen_setW, xi_setR, xi_setW, xr_setI, xr_setW, xww_setI, xww_setR, xi_setI, xr_setR, xww_setW, xE_new, xsz_new, xsl_new, hx, c1, tw1]) rfl (by rw [lw1]; omega) ?_
  rw [iw1 (i + 1) (by omega)]
  refine xw_aload_n (pc := 1680) dL_law_1680 1 rfl ?_
  refine xw_iload (pc := 1681) dL_law_1681 6 rfl ?_
  refine xw_iconst (v := nI 2) (pc := 1683) dL_law_1683 rfl ?_
  refine xn_iadd (pc := 1684) dL_law_1684 ?_
  refine xw_iald (k := (i + 2)) (pc := 1685) dL_law_1685 (by simp [-List.getD_eq_getElem?_getD, xE_setI, xsz_setI, xsl_setI, xtag_setI, xown_setI, xlen_setI, xE_setR, xsz_setR, xsl_setR, xtag_setR, xown_setR, xlen_setR, xE_setW, xsz_setW, xsl_setW, xtag_setW, xown_setW, xlen_setW, xi_setR, xi_setW, xr_setI, xr_setW, xww_setI, xww_setR, xi_setI, xr_setR, xww_setW, xE_new, xsz_new, xsl_new, hx, c1, tw1]) rfl (by rw [lw1]; omega) ?_
  rw [iw1 (i + 2) (by omega)]
  refine xw_aload_n (pc := 1686) dL_law_1686 1 rfl ?_
  refine xw_iload (pc := 1687) dL_law_1687 6 rfl ?_
  refine xw_iconst (v := nI 3) (pc := 1689) dL_law_1689 rfl ?_
  refine xn_iadd (pc := 1690) dL_law_1690 ?_
  refine xw_iald (k := (i + 3)) (pc := 1691) dL_law_1691 (by simp [-List.getD_eq_getElem?_getD, xE_setI, xsz_setI, xsl_setI, xtag_setI, xown_setI, xlen_setI, xE_setR, xsz_setR, xsl_setR, xtag_setR, xown_setR, xlen_setR, xE_setW, xsz_setW, xsl_setW, xtag_setW, xown_setW, xlen_setW, xi_setR, xi_setW, xr_setI, xr_setW, xww_setI, xww_setR, xi_setI, xr_setR, xww_setW, xE_new, xsz_new, xsl_new, hx, c1, tw1]) rfl (by rw [lw1]; omega) ?_
  rw [iw1 (i + 3) (by omega)]
  refine xw_callF (pc := 1692) (xr_V (as := [_, _, _]) ok_X6_nextChange rfl (by decide) q2560 q2561 q2562 (by rw [xtag_with]; first | (rw [hM1.1]; rfl) | (rw [hM3.1]; rfl)) (by rw [xtag_with]; first | (rw [hM1.1]; rfl) | (rw [hM3.1]; rfl)) dL_law_1692 rfl rfl (Nat.le_of_ble_eq_true rfl)) (jR.val (hR (d + 1) g1 m hM1 h31 hK1)) ?_
  intro g2 hc2 hm2
  obtain ⟨g3, T, e3, ag, c6, hM3, h33, F3⟩ := hc2
  subst e3
  obtain ⟨hJ2, F4⟩ := xJ.done st1 hK1 ho1 hoD1 hs1 ag hM3 h33 F3
  have hsz : xsz (xWith g3 m T) + xsl (xWith g3 m T) ≤ xsz h + xsl h + 46100 := by
    have := F1.2.2.2.1
    have := F4.2.2.2.1
    omega
  have t2o := hJ2.2.2.1.1
  have t2D := hJ2.2.2.2.1.1
  refine xw_istore (l' := [(7, _), (6, _), (0, _), (1, _), (2, _), (3, _), (4, _), (5, _)]) (pc := 1695) dL_law_1695 (by decide) rfl ?_
  refine xw_aload_n (pc := 1697) dL_law_1697 4 rfl ?_
  refine xw_callV (pc := 1698) (xr_V (as := []) ok_X6_thrown rfl (by decide) q2352 q2353 q2354 (by rw [xtag_with]; first | (rw [hM1.1]; rfl) | (rw [hM3.1]; rfl)) (by rw [xtag_with]; first | (rw [hM1.1]; rfl) | (rw [hM3.1]; rfl)) dL_law_1698 rfl rfl (Nat.le_of_ble_eq_true rfl)) (by have z := SP_X6_thrown (d := d + 91) (S := T) hM3; rw [c6] at z; exact z) ?_
  refine xw_iload (pc := 1701) dL_law_1701 1 rfl ?_
  refine xw_icmp_eq (pc := 1703) 1708 dL_law_1703 rfl (fun hb1703 => ?_) (fun hb1703 => ?_)
  rotate_left
  · exfalso
    replace hb1703 : ¬ (c = c) := mt (nI_eq (a := c) (b := c) (by omega) (by omega)).mpr hb1703
    omega
  replace hb1703 : c = c := (nI_eq (a := c) (b := c) (by omega) (by omega)).mp hb1703
  refine xw_iload (pc := 1708) dL_law_1708 1 rfl ?_
  refine xw_if_ne (pc := 1710) 1725 dL_law_1710 rfl (fun hb1710 => ?_) (fun hb1710 => ?_)
  · replace hb1710 : ¬ (c = 0) := mt (nI_eq (a := c) (b := 0) (by omega) (by omega)).mpr hb1710
    refine xw_goto (pc := 1725) 3272 dL_law_1725 rfl ?_
    refine xw_pick (pc := 3272) (l' := [(0, _), (1, _), (2, _), (3, _), (4, _), (5, _)]) [2, 3, 4, 5, 6, 7] rfl ?_
    exact k _ _ hJ2 hsz
  · replace hb1710 : c = 0 := (nI_eq (a := c) (b := 0) (by omega) (by omega)).mp hb1710
    refine xw_aload_n (pc := 1713) dL_law_1713 5 rfl ?_
    refine xw_iconst (v := nI 0) (pc := 1714) dL_law_1714 rfl ?_
    have wE : xw (xWith g3 m T) out 0 = _ := (F4.w' (xlt (by rw [ho1.1]; decide)) (by rw [ho1.2.1]; unfold o313; omega)).trans (w1 hb1710)
    refine xw_lald (k := 0) (pc := 1715) dL_law_1715 (by simp [-List.getD_eq_getElem?_getD, xE_setI, xsz_setI, xsl_setI, xtag_setI, xown_setI, xlen_setI, xE_setR, xsz_setR, xsl_setR, xtag_setR, xown_setR, xlen_setR, xE_setW, xsz_setW, xsl_setW, xtag_setW, xown_setW, xlen_setW, xi_setR, xi_setW, xr_setI, xr_setW, xww_setI, xww_setR, xi_setI, xr_setR, xww_setW, xE_new, xsz_new, xsl_new, hx, c1, tw1, t2o, t2D]) rfl (by rw [hJ2.2.2.1.2.2]; decide) ?_
    rw [wE]
    refine xw_iload (pc := 1716) dL_law_1716 0 rfl ?_
    refine xw_i2l (pc := 1718) dL_law_1718 ?_
    refine xw_lcmp (pc := 1719) dL_law_1719 rfl ?_
    refine xw_if_eq (pc := 1720) 1725 dL_law_1720 rfl (fun hb1720 => ?_) (fun hb1720 => ?_)
    rotate_left
    · exfalso
      exact hb1720 lg_s
    refine xw_goto (pc := 1725) 3272 dL_law_1725 rfl ?_
    refine xw_pick (pc := 3272) (l' := [(0, _), (1, _), (2, _), (3, _), (4, _), (5, _)]) [2, 3, 4, 5, 6, 7] rfl ?_
    exact k _ _ hJ2 hsz
theorem LC_days {d : Nat} {x m out outD sc len : Nat} {scr : Nat → Int32} {h : xG} {S : xMS} {i : Nat} (hJ : xJ x m out outD sc len scr h S) (hi : i + 6 ≤ len) (hl : len ≤ 144) {Q : Option Value ⊕ Nat → xG → Prop} (k : ∀ h' S', xJ x m out outD sc len scr h' S' → xsz h' + xsl h' ≤ xsz h + xsl h + 46100 → XW M_L_law (d + 92) 3272 [(0, .ref sc), (1, .ref x), (2, .ref m), (3, .ref out), (4, .ref outD), (5, .int (nI i))] [] h' Q) : XW M_L_law (d + 92) 1728 [(0, .ref sc), (1, .ref x), (2, .ref m), (3, .ref out), (4, .ref outD), (5, .int (nI i))] [] h Q := by
  obtain ⟨p_, lk_, fa_, ka_, la_, Z_, n_, rr_, ww_, dq_, da_, hh_, ps_, sv_, hp_⟩ := hJ.1.1.p
  have hx : xtag h x = 1 := hp_.M.tx
  have c1 := hJ.2.2.2.2.1
  have c3 := hJ.2.2.2.2.2.2.1
  have c4 := hJ.2.2.2.2.2.2.2
  have oo := hJ.2.2.1
  have oD := hJ.2.2.2.1
  obtain ⟨c, b, S', hc, hP, hR, hW⟩ := W_days (out := out) hJ.1.1 hJ.1.2 hx oo (p0 := scr (i + 1)) (p1 := scr (i + 2)) (p2 := scr (i + 3))
  refine xw_aload_n (pc := 1728) dL_law_1728 1 rfl ?_
  refine xw_aload_n (pc := 1729) dL_law_1729 0 rfl ?_
  refine xw_iload (pc := 1730) dL_law_1730 5 rfl ?_
  refine xw_iconst (v := nI 1) (pc := 1732) dL_law_1732 rfl ?_
  refine xn_iadd (pc := 1733) dL_law_1733 ?_
  refine xw_iald (k := (i + 1)) (pc := 1734) dL_law_1734 (by simp [-List.getD_eq_getElem?_getD, xE_setI, xsz_setI, xsl_setI, xtag_setI, xown_setI, xlen_setI, xE_setR, xsz_setR, xsl_setR, xtag_setR, xown_setR, xlen_setR, xE_setW, xsz_setW, xsl_setW, xtag_setW, xown_setW, xlen_setW, xi_setR, xi_setW, xr_setI, xr_setW, xww_setI, xww_setR, xi_setI, xr_setR, xww_setW, xE_new, xsz_new, xsl_new, hx, c1]) rfl (by rw [c3]; omega) ?_
  rw [c4 (i + 1) (by omega)]
  refine xw_aload_n (pc := 1735) dL_law_1735 0 rfl ?_
  refine xw_iload (pc := 1736) dL_law_1736 5 rfl ?_
  refine xw_iconst (v := nI 2) (pc := 1738) dL_law_1738 rfl ?_
  refine xn_iadd (pc := 1739) dL_law_1739 ?_
  refine xw_iald (k := (i + 2)) (pc := 1740) dL_law_1740 (by simp [-List.getD_eq_getElem?_getD, xE_setI, xsz_setI, xsl_setI, xtag_setI, xown_setI, xlen_setI, xE_setR, xsz_setR, xsl_setR, xtag_setR, xown_setR, xlen_setR, xE_setW, xsz_setW, xsl_setW, xtag_setW, xown_setW, xlen_setW, xi_setR, xi_setW, xr_setI, xr_setW, xww_setI, xww_setR, xi_setI, xr_setR, xww_setW, xE_new, xsz_new, xsl_new, hx, c1]) rfl (by rw [c3]; omega) ?_
  rw [c4 (i + 2) (by omega)]
  refine xw_aload_n (pc := 1741) dL_law_1741 0 rfl ?_
  refine xw_iload (pc := 1742) dL_law_1742 5 rfl ?_
  refine xw_iconst (v := nI 3) (pc := 1744) dL_law_1744 rfl ?_
  refine xn_iadd (pc := 1745) dL_law_1745 ?_
  refine xw_iald (k := (i + 3)) (pc := 1746) dL_law_1746 (by simp [-List.getD_eq_getElem?_getD, xE_setI, xsz_setI, xsl_setI, xtag_setI, xown_setI, xlen_setI, xE_setR, xsz_setR, xsl_setR, xtag_setR, xown_setR, xlen_setR, xE_setW, xsz_setW, xsl_setW, xtag_setW, xown_setW, xlen_setW, xi_setR, xi_setW, xr_setI, xr_setW, xww_setI, xww_setR, xi_setI, xr_setR, xww_setW, xE_new, xsz_new, xsl_new, hx, c1]) rfl (by rw [c3]; omega) ?_
  rw [c4 (i + 3) (by omega)]
  refine xw_aload_n (pc := 1747) dL_law_1747 3 rfl ?_
  refine xw_callF (pc := 1748) (xr_SX (as := [_, _, _, _, _]) ok_X0_days rfl (by decide) q1596 q1597 dL_law_1748 rfl rfl (Nat.le_of_ble_eq_true rfl)) (hW d) ?_
  intro g1 hc1 hm1
  obtain ⟨st1, F1, w1⟩ := hc1
  refine xw_istore (l' := [(6, _), (0, _), (1, _), (2, _), (3, _), (4, _), (5, _)]) (pc := 1751) dL_law_1751 (by decide) rfl ?_
  obtain ⟨hK1, ⟨hM1, h31, he1⟩, ho1, hoD1, hs1⟩ := hJ.mid st1 F1 (by unfold oW; omega) (by unfold oW; omega)
  have tw1 : xtag (xWith g1 m S) sc = 101 := (he1.ti.1 sc).trans hs1.1
  have lw1 : xlen (xWith g1 m S) sc = len := (he1.ti.2.1 sc).trans hs1.2.2.1
  have iw1 : ∀ j, j < len → xi (xWith g1 m S) sc j = scr j := fun j hj => (he1.ti.2.2 sc j).trans (hs1.2.2.2 j hj)
  refine XW.eqv he1.symm ?_
  refine xw_aload_n (pc := 1753) dL_law_1753 3 rfl ?_
  refine xw_aload_n (pc := 1754) dL_law_1754 1 rfl ?_
  refine xw_iload (pc := 1755) dL_law_1755 6 rfl ?_
  refine xw_iconst (v := nI 1) (pc := 1757) dL_law_1757 rfl ?_
  refine xn_iadd (pc := 1758) dL_law_1758 ?_
  refine xw_iald (k := (i + 1)) (pc := 1759) dL_law_1759 (by simp [-List.getD_eq_getElem?_getD, xE_setI, xsz_setI, xsl_setI, xtag_setI, xown_setI, xlen_setI, xE_setR, xsz_setR, xsl_setR, xtag_setR, xown_setR, xlen_setR, xE_setW, xsz_setW, xsl_setW, xtag_setW, xown_setW, xlen_setW, xi_setR, xi_setW, xr_setI, xr_setW, xww_setI, xww_setR, xi_setI, xr_setR, xww_setW, xE_new, xsz_new, xsl_new, hx, c1, tw1]) rfl (by rw [lw1]; omega) ?_
  rw [iw1 (i + 1) (by omega)]
  refine xw_aload_n (pc := 1760) dL_law_1760 1 rfl ?_
  refine xw_iload (pc := 1761) dL_law_1761 6 rfl ?_
  refine xw_iconst (v := nI 2) (pc := 1763) dL_law_1763 rfl ?_
  refine xn_iadd (pc := 1764) dL_law_1764 ?_
  refine xw_iald (k := (i + 2)) (pc := 1765) dL_law_1765 (by simp [-List.getD_eq_getElem?_getD, xE_setI, xsz_setI, xsl_setI, xtag_setI, xown_setI, xlen_setI, xE_setR, xsz_setR, xsl_setR, xtag_setR, xown_setR, xlen_setR, xE_setW, xsz_setW, xsl_setW, xtag_setW, xown_setW, xlen_setW, xi_setR, xi_setW, xr_setI, xr_setW, xww_setI, xww_setR, xi_setI, xr_setR, xww_setW, xE_new, xsz_new, xsl_new, hx, c1, tw1]) rfl (by rw [lw1]; omega) ?_
  rw [iw1 (i + 2) (by omega)]
  refine xw_aload_n (pc := 1766) dL_law_1766 1 rfl ?_
  refine xw_iload (pc := 1767) dL_law_1767 6 rfl ?_
  refine xw_iconst (v := nI 3) (pc := 1769) dL_law_1769 rfl ?_
  refine xn_iadd (pc := 1770) dL_law_1770 ?_
  refine xw_iald (k := (i + 3)) (pc := 1771) dL_law_1771 (by simp [-List.getD_eq_getElem?_getD, xE_setI, xsz_setI, xsl_setI, xtag_setI, xown_setI, xlen_setI, xE_setR, xsz_setR, xsl_setR, xtag_setR, xown_setR, xlen_setR, xE_setW, xsz_setW, xsl_setW, xtag_setW, xown_setW, xlen_setW, xi_setR, xi_setW, xr_setI, xr_setW, xww_setI, xww_setR, xi_setI, xr_setR, xww_setW, xE_new, xsz_new, xsl_new, hx, c1, tw1]) rfl (by rw [lw1]; omega) ?_
  rw [iw1 (i + 3) (by omega)]
  refine xw_callF (pc := 1772) (xr_V (as := [_, _, _]) ok_X6_days rfl (by decide) q2564 q2565 q2566 (by rw [xtag_with]; first | (rw [hM1.1]; rfl) | (rw [hM3.1]; rfl)) (by rw [xtag_with]; first | (rw [hM1.1]; rfl) | (rw [hM3.1]; rfl)) dL_law_1772 rfl rfl (Nat.le_of_ble_eq_true rfl)) (jR.val (hR (d + 1) g1 m hM1 h31 hK1)) ?_
  intro g2 hc2 hm2
  obtain ⟨g3, T, e3, ag, c6, hM3, h33, F3⟩ := hc2
  subst e3
  obtain ⟨hJ2, F4⟩ := xJ.done st1 hK1 ho1 hoD1 hs1 ag hM3 h33 F3
  have hsz : xsz (xWith g3 m T) + xsl (xWith g3 m T) ≤ xsz h + xsl h + 46100 := by
    have := F1.2.2.2.1
    have := F4.2.2.2.1
    omega
  have t2o := hJ2.2.2.1.1
  have t2D := hJ2.2.2.2.1.1
  refine xw_istore (l' := [(7, _), (6, _), (0, _), (1, _), (2, _), (3, _), (4, _), (5, _)]) (pc := 1775) dL_law_1775 (by decide) rfl ?_
  refine xw_aload_n (pc := 1777) dL_law_1777 4 rfl ?_
  refine xw_callV (pc := 1778) (xr_V (as := []) ok_X6_thrown rfl (by decide) q2352 q2353 q2354 (by rw [xtag_with]; first | (rw [hM1.1]; rfl) | (rw [hM3.1]; rfl)) (by rw [xtag_with]; first | (rw [hM1.1]; rfl) | (rw [hM3.1]; rfl)) dL_law_1778 rfl rfl (Nat.le_of_ble_eq_true rfl)) (by have z := SP_X6_thrown (d := d + 91) (S := T) hM3; rw [c6] at z; exact z) ?_
  refine xw_iload (pc := 1781) dL_law_1781 1 rfl ?_
  refine xw_icmp_eq (pc := 1783) 1788 dL_law_1783 rfl (fun hb1783 => ?_) (fun hb1783 => ?_)
  rotate_left
  · exfalso
    replace hb1783 : ¬ (c = c) := mt (nI_eq (a := c) (b := c) (by omega) (by omega)).mpr hb1783
    omega
  replace hb1783 : c = c := (nI_eq (a := c) (b := c) (by omega) (by omega)).mp hb1783
  refine xw_iload (pc := 1788) dL_law_1788 1 rfl ?_
  refine xw_if_ne (pc := 1790) 1805 dL_law_1790 rfl (fun hb1790 => ?_) (fun hb1790 => ?_)
  · replace hb1790 : ¬ (c = 0) := mt (nI_eq (a := c) (b := 0) (by omega) (by omega)).mpr hb1790
    refine xw_goto (pc := 1805) 3272 dL_law_1805 rfl ?_
    refine xw_pick (pc := 3272) (l' := [(0, _), (1, _), (2, _), (3, _), (4, _), (5, _)]) [2, 3, 4, 5, 6, 7] rfl ?_
    exact k _ _ hJ2 hsz
  · replace hb1790 : c = 0 := (nI_eq (a := c) (b := 0) (by omega) (by omega)).mp hb1790
    refine xw_aload_n (pc := 1793) dL_law_1793 5 rfl ?_
    refine xw_iconst (v := nI 0) (pc := 1794) dL_law_1794 rfl ?_
    have wE : xw (xWith g3 m T) out 0 = _ := (F4.w' (xlt (by rw [ho1.1]; decide)) (by rw [ho1.2.1]; unfold o313; omega)).trans (w1 hb1790)
    refine xw_lald (k := 0) (pc := 1795) dL_law_1795 (by simp [-List.getD_eq_getElem?_getD, xE_setI, xsz_setI, xsl_setI, xtag_setI, xown_setI, xlen_setI, xE_setR, xsz_setR, xsl_setR, xtag_setR, xown_setR, xlen_setR, xE_setW, xsz_setW, xsl_setW, xtag_setW, xown_setW, xlen_setW, xi_setR, xi_setW, xr_setI, xr_setW, xww_setI, xww_setR, xi_setI, xr_setR, xww_setW, xE_new, xsz_new, xsl_new, hx, c1, tw1, t2o, t2D]) rfl (by rw [hJ2.2.2.1.2.2]; decide) ?_
    rw [wE]
    refine xw_iload (pc := 1796) dL_law_1796 0 rfl ?_
    refine xw_i2l (pc := 1798) dL_law_1798 ?_
    refine xw_lcmp (pc := 1799) dL_law_1799 rfl ?_
    refine xw_if_eq (pc := 1800) 1805 dL_law_1800 rfl (fun hb1800 => ?_) (fun hb1800 => ?_)
    rotate_left
    · exfalso
      exact hb1800 lg_s
    refine xw_goto (pc := 1805) 3272 dL_law_1805 rfl ?_
    refine xw_pick (pc := 3272) (l' := [(0, _), (1, _), (2, _), (3, _), (4, _), (5, _)]) [2, 3, 4, 5, 6, 7] rfl ?_
    exact k _ _ hJ2 hsz
theorem LC_burden {d : Nat} {x m out outD sc len : Nat} {scr : Nat → Int32} {h : xG} {S : xMS} {i : Nat} (hJ : xJ x m out outD sc len scr h S) (hi : i + 6 ≤ len) (hl : len ≤ 144) {Q : Option Value ⊕ Nat → xG → Prop} (k : ∀ h' S', xJ x m out outD sc len scr h' S' → xsz h' + xsl h' ≤ xsz h + xsl h + 46100 → XW M_L_law (d + 92) 3272 [(0, .ref sc), (1, .ref x), (2, .ref m), (3, .ref out), (4, .ref outD), (5, .int (nI i))] [] h' Q) : XW M_L_law (d + 92) 1808 [(0, .ref sc), (1, .ref x), (2, .ref m), (3, .ref out), (4, .ref outD), (5, .int (nI i))] [] h Q := by
  obtain ⟨p_, lk_, fa_, ka_, la_, Z_, n_, rr_, ww_, dq_, da_, hh_, ps_, sv_, hp_⟩ := hJ.1.1.p
  have hx : xtag h x = 1 := hp_.M.tx
  have c1 := hJ.2.2.2.2.1
  have c3 := hJ.2.2.2.2.2.2.1
  have c4 := hJ.2.2.2.2.2.2.2
  have oo := hJ.2.2.1
  have oD := hJ.2.2.2.1
  obtain ⟨c, b, S', hc, hP, hR, hW⟩ := W_burden (out := outD) hJ.1.1 hJ.1.2 hx oD (p0 := scr (i + 1)) (p1 := scr (i + 2)) (p2 := scr (i + 3))
  refine xw_aload_n (pc := 1808) dL_law_1808 1 rfl ?_
  refine xw_aload_n (pc := 1809) dL_law_1809 0 rfl ?_
  refine xw_iload (pc := 1810) dL_law_1810 5 rfl ?_
  refine xw_iconst (v := nI 1) (pc := 1812) dL_law_1812 rfl ?_
  refine xn_iadd (pc := 1813) dL_law_1813 ?_
  refine xw_iald (k := (i + 1)) (pc := 1814) dL_law_1814 (by simp [-List.getD_eq_getElem?_getD, xE_setI, xsz_setI, xsl_setI, xtag_setI, xown_setI, xlen_setI, xE_setR, xsz_setR, xsl_setR, xtag_setR, xown_setR, xlen_setR, xE_setW, xsz_setW, xsl_setW, xtag_setW, xown_setW, xlen_setW, xi_setR, xi_setW, xr_setI, xr_setW, xww_setI, xww_setR, xi_setI, xr_setR, xww_setW, xE_new, xsz_new, xsl_new, hx, c1]) rfl (by rw [c3]; omega) ?_
  rw [c4 (i + 1) (by omega)]
  refine xw_aload_n (pc := 1815) dL_law_1815 0 rfl ?_
  refine xw_iload (pc := 1816) dL_law_1816 5 rfl ?_
  refine xw_iconst (v := nI 2) (pc := 1818) dL_law_1818 rfl ?_
  refine xn_iadd (pc := 1819) dL_law_1819 ?_
  refine xw_iald (k := (i + 2)) (pc := 1820) dL_law_1820 (by simp [-List.getD_eq_getElem?_getD, xE_setI, xsz_setI, xsl_setI, xtag_setI, xown_setI, xlen_setI, xE_setR, xsz_setR, xsl_setR, xtag_setR, xown_setR, xlen_setR, xE_setW, xsz_setW, xsl_setW, xtag_setW, xown_setW, xlen_setW, xi_setR, xi_setW, xr_setI, xr_setW, xww_setI, xww_setR, xi_setI, xr_setR, xww_setW, xE_new, xsz_new, xsl_new, hx, c1]) rfl (by rw [c3]; omega) ?_
  rw [c4 (i + 2) (by omega)]
  refine xw_aload_n (pc := 1821) dL_law_1821 0 rfl ?_
  refine xw_iload (pc := 1822) dL_law_1822 5 rfl ?_
  refine xw_iconst (v := nI 3) (pc := 1824) dL_law_1824 rfl ?_
  refine xn_iadd (pc := 1825) dL_law_1825 ?_
  refine xw_iald (k := (i + 3)) (pc := 1826) dL_law_1826 (by simp [-List.getD_eq_getElem?_getD, xE_setI, xsz_setI, xsl_setI, xtag_setI, xown_setI, xlen_setI, xE_setR, xsz_setR, xsl_setR, xtag_setR, xown_setR, xlen_setR, xE_setW, xsz_setW, xsl_setW, xtag_setW, xown_setW, xlen_setW, xi_setR, xi_setW, xr_setI, xr_setW, xww_setI, xww_setR, xi_setI, xr_setR, xww_setW, xE_new, xsz_new, xsl_new, hx, c1]) rfl (by rw [c3]; omega) ?_
  rw [c4 (i + 3) (by omega)]
  refine xw_aload (pc := 1827) dL_law_1827 4 rfl ?_
  refine xw_callF (pc := 1829) (xr_SX (as := [_, _, _, _, _]) ok_X0_burden rfl (by decide) q1603 q1604 dL_law_1829 rfl rfl (Nat.le_of_ble_eq_true rfl)) (hW d) ?_
  intro g1 hc1 hm1
  obtain ⟨st1, F1, w1⟩ := hc1
  refine xw_istore (l' := [(6, _), (0, _), (1, _), (2, _), (3, _), (4, _), (5, _)]) (pc := 1832) dL_law_1832 (by decide) rfl ?_
  obtain ⟨hK1, ⟨hM1, h31, he1⟩, ho1, hoD1, hs1⟩ := hJ.mid st1 F1 (by unfold oW; omega) (by unfold oW; omega)
  have tw1 : xtag (xWith g1 m S) sc = 101 := (he1.ti.1 sc).trans hs1.1
  have lw1 : xlen (xWith g1 m S) sc = len := (he1.ti.2.1 sc).trans hs1.2.2.1
  have iw1 : ∀ j, j < len → xi (xWith g1 m S) sc j = scr j := fun j hj => (he1.ti.2.2 sc j).trans (hs1.2.2.2 j hj)
  refine XW.eqv he1.symm ?_
  refine xw_aload_n (pc := 1834) dL_law_1834 3 rfl ?_
  refine xw_aload_n (pc := 1835) dL_law_1835 1 rfl ?_
  refine xw_iload (pc := 1836) dL_law_1836 6 rfl ?_
  refine xw_iconst (v := nI 1) (pc := 1838) dL_law_1838 rfl ?_
  refine xn_iadd (pc := 1839) dL_law_1839 ?_
  refine xw_iald (k := (i + 1)) (pc := 1840) dL_law_1840 (by simp [-List.getD_eq_getElem?_getD, xE_setI, xsz_setI, xsl_setI, xtag_setI, xown_setI, xlen_setI, xE_setR, xsz_setR, xsl_setR, xtag_setR, xown_setR, xlen_setR, xE_setW, xsz_setW, xsl_setW, xtag_setW, xown_setW, xlen_setW, xi_setR, xi_setW, xr_setI, xr_setW, xww_setI, xww_setR, xi_setI, xr_setR, xww_setW, xE_new, xsz_new, xsl_new, hx, c1, tw1]) rfl (by rw [lw1]; omega) ?_
  rw [iw1 (i + 1) (by omega)]
  refine xw_aload_n (pc := 1841) dL_law_1841 1 rfl ?_
  refine xw_iload (pc := 1842) dL_law_1842 6 rfl ?_
  refine xw_iconst (v := nI 2) (pc := 1844) dL_law_1844 rfl ?_
  refine xn_iadd (pc := 1845) dL_law_1845 ?_
  refine xw_iald (k := (i + 2)) (pc := 1846) dL_law_1846 (by simp [-List.getD_eq_getElem?_getD, xE_setI, xsz_setI, xsl_setI, xtag_setI, xown_setI, xlen_setI, xE_setR, xsz_setR, xsl_setR, xtag_setR, xown_setR, xlen_setR, xE_setW, xsz_setW, xsl_setW, xtag_setW, xown_setW, xlen_setW, xi_setR, xi_setW, xr_setI, xr_setW, xww_setI, xww_setR, xi_setI, xr_setR, xww_setW, xE_new, xsz_new, xsl_new, hx, c1, tw1]) rfl (by rw [lw1]; omega) ?_
  rw [iw1 (i + 2) (by omega)]
  refine xw_aload_n (pc := 1847) dL_law_1847 1 rfl ?_
  refine xw_iload (pc := 1848) dL_law_1848 6 rfl ?_
  refine xw_iconst (v := nI 3) (pc := 1850) dL_law_1850 rfl ?_
  refine xn_iadd (pc := 1851) dL_law_1851 ?_
  refine xw_iald (k := (i + 3)) (pc := 1852) dL_law_1852 (by simp [-List.getD_eq_getElem?_getD, xE_setI, xsz_setI, xsl_setI, xtag_setI, xown_setI, xlen_setI, xE_setR, xsz_setR, xsl_setR, xtag_setR, xown_setR, xlen_setR, xE_setW, xsz_setW, xsl_setW, xtag_setW, xown_setW, xlen_setW, xi_setR, xi_setW, xr_setI, xr_setW, xww_setI, xww_setR, xi_setI, xr_setR, xww_setW, xE_new, xsz_new, xsl_new, hx, c1, tw1]) rfl (by rw [lw1]; omega) ?_
  rw [iw1 (i + 3) (by omega)]
  refine xw_callF (pc := 1853) (xr_V (as := [_, _, _]) ok_X6_burden rfl (by decide) q2568 q2569 q2570 (by rw [xtag_with]; first | (rw [hM1.1]; rfl) | (rw [hM3.1]; rfl)) (by rw [xtag_with]; first | (rw [hM1.1]; rfl) | (rw [hM3.1]; rfl)) dL_law_1853 rfl rfl (Nat.le_of_ble_eq_true rfl)) (jR.val (hR (d + 1) g1 m hM1 h31 hK1)) ?_
  intro g2 hc2 hm2
  obtain ⟨g3, T, e3, ag, c6, hM3, h33, F3⟩ := hc2
  subst e3
  obtain ⟨hJ2, F4⟩ := xJ.done st1 hK1 ho1 hoD1 hs1 ag hM3 h33 F3
  have hsz : xsz (xWith g3 m T) + xsl (xWith g3 m T) ≤ xsz h + xsl h + 46100 := by
    have := F1.2.2.2.1
    have := F4.2.2.2.1
    omega
  have t2o := hJ2.2.2.1.1
  have t2D := hJ2.2.2.2.1.1
  refine xw_fstore (l' := [(7, _), (6, _), (0, _), (1, _), (2, _), (3, _), (4, _), (5, _)]) (pc := 1856) dL_law_1856 (by decide) rfl ?_
  refine xw_aload_n (pc := 1858) dL_law_1858 4 rfl ?_
  refine xw_callV (pc := 1859) (xr_V (as := []) ok_X6_thrown rfl (by decide) q2352 q2353 q2354 (by rw [xtag_with]; first | (rw [hM1.1]; rfl) | (rw [hM3.1]; rfl)) (by rw [xtag_with]; first | (rw [hM1.1]; rfl) | (rw [hM3.1]; rfl)) dL_law_1859 rfl rfl (Nat.le_of_ble_eq_true rfl)) (by have z := SP_X6_thrown (d := d + 91) (S := T) hM3; rw [c6] at z; exact z) ?_
  refine xw_iload (pc := 1862) dL_law_1862 1 rfl ?_
  refine xw_icmp_eq (pc := 1864) 1869 dL_law_1864 rfl (fun hb1864 => ?_) (fun hb1864 => ?_)
  rotate_left
  · exfalso
    replace hb1864 : ¬ (c = c) := mt (nI_eq (a := c) (b := c) (by omega) (by omega)).mpr hb1864
    omega
  replace hb1864 : c = c := (nI_eq (a := c) (b := c) (by omega) (by omega)).mp hb1864
  refine xw_iload (pc := 1869) dL_law_1869 1 rfl ?_
  refine xw_if_ne (pc := 1871) 1907 dL_law_1871 rfl (fun hb1871 => ?_) (fun hb1871 => ?_)
  · replace hb1871 : ¬ (c = 0) := mt (nI_eq (a := c) (b := 0) (by omega) (by omega)).mpr hb1871
    refine xw_goto (pc := 1907) 3272 dL_law_1907 rfl ?_
    refine xw_pick (pc := 3272) (l' := [(0, _), (1, _), (2, _), (3, _), (4, _), (5, _)]) [2, 3, 4, 5, 6, 7] rfl ?_
    exact k _ _ hJ2 hsz
  · replace hb1871 : c = 0 := (nI_eq (a := c) (b := 0) (by omega) (by omega)).mp hb1871
    refine xw_aload (pc := 1874) dL_law_1874 6 rfl ?_
    refine xw_iconst (v := nI 0) (pc := 1876) dL_law_1876 rfl ?_
    have wE : xw (xWith g3 m T) outD 0 = _ := (F4.w' (xlt (by rw [hoD1.1]; decide)) (by rw [hoD1.2.1]; unfold o313; omega)).trans (w1 hb1871)
    have hz := hP hb1871
    refine xw_dald (k := 0) (pc := 1877) dL_law_1877 (by simp [-List.getD_eq_getElem?_getD, xE_setI, xsz_setI, xsl_setI, xtag_setI, xown_setI, xlen_setI, xE_setR, xsz_setR, xsl_setR, xtag_setR, xown_setR, xlen_setR, xE_setW, xsz_setW, xsl_setW, xtag_setW, xown_setW, xlen_setW, xi_setR, xi_setW, xr_setI, xr_setW, xww_setI, xww_setR, xi_setI, xr_setR, xww_setW, xE_new, xsz_new, xsl_new, hx, c1, tw1, t2o, t2D]) rfl (by rw [hJ2.2.2.2.1.2.2]; decide) ?_
    rw [wE]
    refine xw_fload (pc := 1878) dL_law_1878 0 rfl ?_
    refine xw_f2d (pc := 1880) dL_law_1880 (by exact (f2d_Z hz).n64) ?_
    refine xw_dcmp (pc := 1881) dL_law_1881 ?_
    refine xw_if_eq (pc := 1882) 1907 dL_law_1882 rfl (fun hb1882 => ?_) (fun hb1882 => ?_)
    rotate_left
    · exfalso
      exact hb1882 (dcmp_self (f2d_Z hz))
    refine xw_goto (pc := 1907) 3272 dL_law_1907 rfl ?_
    refine xw_pick (pc := 3272) (l' := [(0, _), (1, _), (2, _), (3, _), (4, _), (5, _)]) [2, 3, 4, 5, 6, 7] rfl ?_
    exact k _ _ hJ2 hsz
theorem LC_percent {d : Nat} {x m out outD sc len : Nat} {scr : Nat → Int32} {h : xG} {S : xMS} {i : Nat} (hJ : xJ x m out outD sc len scr h S) (hi : i + 6 ≤ len) (hl : len ≤ 144) {Q : Option Value ⊕ Nat → xG → Prop} (k : ∀ h' S', xJ x m out outD sc len scr h' S' → xsz h' + xsl h' ≤ xsz h + xsl h + 46100 → XW M_L_law (d + 92) 3272 [(0, .ref sc), (1, .ref x), (2, .ref m), (3, .ref out), (4, .ref outD), (5, .int (nI i))] [] h' Q) : XW M_L_law (d + 92) 1910 [(0, .ref sc), (1, .ref x), (2, .ref m), (3, .ref out), (4, .ref outD), (5, .int (nI i))] [] h Q := by
  obtain ⟨p_, lk_, fa_, ka_, la_, Z_, n_, rr_, ww_, dq_, da_, hh_, ps_, sv_, hp_⟩ := hJ.1.1.p
  have hx : xtag h x = 1 := hp_.M.tx
  have c1 := hJ.2.2.2.2.1
  have c3 := hJ.2.2.2.2.2.2.1
  have c4 := hJ.2.2.2.2.2.2.2
  have oo := hJ.2.2.1
  have oD := hJ.2.2.2.1
  obtain ⟨c, b, S', hc, hP, hR, hW⟩ := W_percent (out := out) hJ.1.1 hJ.1.2 hx oo (p0 := scr (i + 1)) (p1 := scr (i + 2)) (p2 := scr (i + 3))
  refine xw_aload_n (pc := 1910) dL_law_1910 1 rfl ?_
  refine xw_aload_n (pc := 1911) dL_law_1911 0 rfl ?_
  refine xw_iload (pc := 1912) dL_law_1912 5 rfl ?_
  refine xw_iconst (v := nI 1) (pc := 1914) dL_law_1914 rfl ?_
  refine xn_iadd (pc := 1915) dL_law_1915 ?_
  refine xw_iald (k := (i + 1)) (pc := 1916) dL_law_1916 (by simp [-List.getD_eq_getElem?_getD, xE_setI, xsz_setI, xsl_setI, xtag_setI, xown_setI, xlen_setI, xE_setR, xsz_setR, xsl_setR, xtag_setR, xown_setR, xlen_setR, xE_setW, xsz_setW, xsl_setW, xtag_setW, xown_setW, xlen_setW, xi_setR, xi_setW, xr_setI, xr_setW, xww_setI, xww_setR, xi_setI, xr_setR, xww_setW, xE_new, xsz_new, xsl_new, hx, c1]) rfl (by rw [c3]; omega) ?_
  rw [c4 (i + 1) (by omega)]
  refine xw_aload_n (pc := 1917) dL_law_1917 0 rfl ?_
  refine xw_iload (pc := 1918) dL_law_1918 5 rfl ?_
  refine xw_iconst (v := nI 2) (pc := 1920) dL_law_1920 rfl ?_
  refine xn_iadd (pc := 1921) dL_law_1921 ?_
  refine xw_iald (k := (i + 2)) (pc := 1922) dL_law_1922 (by simp [-List.getD_eq_getElem?_getD, xE_setI, xsz_setI, xsl_setI, xtag_setI, xown_setI, xlen_setI, xE_setR, xsz_setR, xsl_setR, xtag_setR, xown_setR, xlen_setR, xE_setW, xsz_setW, xsl_setW, xtag_setW, xown_setW, xlen_setW, xi_setR, xi_setW, xr_setI, xr_setW, xww_setI, xww_setR, xi_setI, xr_setR, xww_setW, xE_new, xsz_new, xsl_new, hx, c1]) rfl (by rw [c3]; omega) ?_
  rw [c4 (i + 2) (by omega)]
  refine xw_aload_n (pc := 1923) dL_law_1923 0 rfl ?_
  refine xw_iload (pc := 1924) dL_law_1924 5 rfl ?_
  refine xw_iconst (v := nI 3) (pc := 1926) dL_law_1926 rfl ?_
  refine xn_iadd (pc := 1927) dL_law_1927 ?_
  refine xw_iald (k := (i + 3)) (pc := 1928) dL_law_1928 (by simp [-List.getD_eq_getElem?_getD, xE_setI, xsz_setI, xsl_setI, xtag_setI, xown_setI, xlen_setI, xE_setR, xsz_setR, xsl_setR, xtag_setR, xown_setR, xlen_setR, xE_setW, xsz_setW, xsl_setW, xtag_setW, xown_setW, xlen_setW, xi_setR, xi_setW, xr_setI, xr_setW, xww_setI, xww_setR, xi_setI, xr_setR, xww_setW, xE_new, xsz_new, xsl_new, hx, c1]) rfl (by rw [c3]; omega) ?_
  rw [c4 (i + 3) (by omega)]
  refine xw_aload_n (pc := 1929) dL_law_1929 3 rfl ?_
  refine xw_callF (pc := 1930) (xr_SX (as := [_, _, _, _, _]) ok_X0_percent rfl (by decide) q1616 q1617 dL_law_1930 rfl rfl (Nat.le_of_ble_eq_true rfl)) (hW d) ?_
  intro g1 hc1 hm1
  obtain ⟨st1, F1, w1⟩ := hc1
  refine xw_istore (l' := [(6, _), (0, _), (1, _), (2, _), (3, _), (4, _), (5, _)]) (pc := 1933) dL_law_1933 (by decide) rfl ?_
  obtain ⟨hK1, ⟨hM1, h31, he1⟩, ho1, hoD1, hs1⟩ := hJ.mid st1 F1 (by unfold oW; omega) (by unfold oW; omega)
  have tw1 : xtag (xWith g1 m S) sc = 101 := (he1.ti.1 sc).trans hs1.1
  have lw1 : xlen (xWith g1 m S) sc = len := (he1.ti.2.1 sc).trans hs1.2.2.1
  have iw1 : ∀ j, j < len → xi (xWith g1 m S) sc j = scr j := fun j hj => (he1.ti.2.2 sc j).trans (hs1.2.2.2 j hj)
  refine XW.eqv he1.symm ?_
  refine xw_aload_n (pc := 1935) dL_law_1935 3 rfl ?_
  refine xw_aload_n (pc := 1936) dL_law_1936 1 rfl ?_
  refine xw_iload (pc := 1937) dL_law_1937 6 rfl ?_
  refine xw_iconst (v := nI 1) (pc := 1939) dL_law_1939 rfl ?_
  refine xn_iadd (pc := 1940) dL_law_1940 ?_
  refine xw_iald (k := (i + 1)) (pc := 1941) dL_law_1941 (by simp [-List.getD_eq_getElem?_getD, xE_setI, xsz_setI, xsl_setI, xtag_setI, xown_setI, xlen_setI, xE_setR, xsz_setR, xsl_setR, xtag_setR, xown_setR, xlen_setR, xE_setW, xsz_setW, xsl_setW, xtag_setW, xown_setW, xlen_setW, xi_setR, xi_setW, xr_setI, xr_setW, xww_setI, xww_setR, xi_setI, xr_setR, xww_setW, xE_new, xsz_new, xsl_new, hx, c1, tw1]) rfl (by rw [lw1]; omega) ?_
  rw [iw1 (i + 1) (by omega)]
  refine xw_aload_n (pc := 1942) dL_law_1942 1 rfl ?_
  refine xw_iload (pc := 1943) dL_law_1943 6 rfl ?_
  refine xw_iconst (v := nI 2) (pc := 1945) dL_law_1945 rfl ?_
  refine xn_iadd (pc := 1946) dL_law_1946 ?_
  refine xw_iald (k := (i + 2)) (pc := 1947) dL_law_1947 (by simp [-List.getD_eq_getElem?_getD, xE_setI, xsz_setI, xsl_setI, xtag_setI, xown_setI, xlen_setI, xE_setR, xsz_setR, xsl_setR, xtag_setR, xown_setR, xlen_setR, xE_setW, xsz_setW, xsl_setW, xtag_setW, xown_setW, xlen_setW, xi_setR, xi_setW, xr_setI, xr_setW, xww_setI, xww_setR, xi_setI, xr_setR, xww_setW, xE_new, xsz_new, xsl_new, hx, c1, tw1]) rfl (by rw [lw1]; omega) ?_
  rw [iw1 (i + 2) (by omega)]
  refine xw_aload_n (pc := 1948) dL_law_1948 1 rfl ?_
  refine xw_iload (pc := 1949) dL_law_1949 6 rfl ?_
  refine xw_iconst (v := nI 3) (pc := 1951) dL_law_1951 rfl ?_
  refine xn_iadd (pc := 1952) dL_law_1952 ?_
  refine xw_iald (k := (i + 3)) (pc := 1953) dL_law_1953 (by simp [-List.getD_eq_getElem?_getD, xE_setI, xsz_setI, xsl_setI, xtag_setI, xown_setI, xlen_setI, xE_setR, xsz_setR, xsl_setR, xtag_setR, xown_setR, xlen_setR, xE_setW, xsz_setW, xsl_setW, xtag_setW, xown_setW, xlen_setW, xi_setR, xi_setW, xr_setI, xr_setW, xww_setI, xww_setR, xi_setI, xr_setR, xww_setW, xE_new, xsz_new, xsl_new, hx, c1, tw1]) rfl (by rw [lw1]; omega) ?_
  rw [iw1 (i + 3) (by omega)]
  refine xw_callF (pc := 1954) (xr_V (as := [_, _, _]) ok_X6_percent rfl (by decide) q2578 q2579 q2580 (by rw [xtag_with]; first | (rw [hM1.1]; rfl) | (rw [hM3.1]; rfl)) (by rw [xtag_with]; first | (rw [hM1.1]; rfl) | (rw [hM3.1]; rfl)) dL_law_1954 rfl rfl (Nat.le_of_ble_eq_true rfl)) (jR.val (hR (d + 1) g1 m hM1 h31 hK1)) ?_
  intro g2 hc2 hm2
  obtain ⟨g3, T, e3, ag, c6, hM3, h33, F3⟩ := hc2
  subst e3
  obtain ⟨hJ2, F4⟩ := xJ.done st1 hK1 ho1 hoD1 hs1 ag hM3 h33 F3
  have hsz : xsz (xWith g3 m T) + xsl (xWith g3 m T) ≤ xsz h + xsl h + 46100 := by
    have := F1.2.2.2.1
    have := F4.2.2.2.1
    omega
  have t2o := hJ2.2.2.1.1
  have t2D := hJ2.2.2.2.1.1
  refine xw_istore (l' := [(7, _), (6, _), (0, _), (1, _), (2, _), (3, _), (4, _), (5, _)]) (pc := 1957) dL_law_1957 (by decide) rfl ?_
  refine xw_aload_n (pc := 1959) dL_law_1959 4 rfl ?_
  refine xw_callV (pc := 1960) (xr_V (as := []) ok_X6_thrown rfl (by decide) q2352 q2353 q2354 (by rw [xtag_with]; first | (rw [hM1.1]; rfl) | (rw [hM3.1]; rfl)) (by rw [xtag_with]; first | (rw [hM1.1]; rfl) | (rw [hM3.1]; rfl)) dL_law_1960 rfl rfl (Nat.le_of_ble_eq_true rfl)) (by have z := SP_X6_thrown (d := d + 91) (S := T) hM3; rw [c6] at z; exact z) ?_
  refine xw_iload (pc := 1963) dL_law_1963 1 rfl ?_
  refine xw_icmp_eq (pc := 1965) 1970 dL_law_1965 rfl (fun hb1965 => ?_) (fun hb1965 => ?_)
  rotate_left
  · exfalso
    replace hb1965 : ¬ (c = c) := mt (nI_eq (a := c) (b := c) (by omega) (by omega)).mpr hb1965
    omega
  replace hb1965 : c = c := (nI_eq (a := c) (b := c) (by omega) (by omega)).mp hb1965
  refine xw_iload (pc := 1970) dL_law_1970 1 rfl ?_
  refine xw_if_ne (pc := 1972) 1987 dL_law_1972 rfl (fun hb1972 => ?_) (fun hb1972 => ?_)
  · replace hb1972 : ¬ (c = 0) := mt (nI_eq (a := c) (b := 0) (by omega) (by omega)).mpr hb1972
    refine xw_goto (pc := 1987) 3272 dL_law_1987 rfl ?_
    refine xw_pick (pc := 3272) (l' := [(0, _), (1, _), (2, _), (3, _), (4, _), (5, _)]) [2, 3, 4, 5, 6, 7] rfl ?_
    exact k _ _ hJ2 hsz
  · replace hb1972 : c = 0 := (nI_eq (a := c) (b := 0) (by omega) (by omega)).mp hb1972
    refine xw_aload_n (pc := 1975) dL_law_1975 5 rfl ?_
    refine xw_iconst (v := nI 0) (pc := 1976) dL_law_1976 rfl ?_
    have wE : xw (xWith g3 m T) out 0 = _ := (F4.w' (xlt (by rw [ho1.1]; decide)) (by rw [ho1.2.1]; unfold o313; omega)).trans (w1 hb1972)
    refine xw_lald (k := 0) (pc := 1977) dL_law_1977 (by simp [-List.getD_eq_getElem?_getD, xE_setI, xsz_setI, xsl_setI, xtag_setI, xown_setI, xlen_setI, xE_setR, xsz_setR, xsl_setR, xtag_setR, xown_setR, xlen_setR, xE_setW, xsz_setW, xsl_setW, xtag_setW, xown_setW, xlen_setW, xi_setR, xi_setW, xr_setI, xr_setW, xww_setI, xww_setR, xi_setI, xr_setR, xww_setW, xE_new, xsz_new, xsl_new, hx, c1, tw1, t2o, t2D]) rfl (by rw [hJ2.2.2.1.2.2]; decide) ?_
    rw [wE]
    refine xw_iload (pc := 1978) dL_law_1978 0 rfl ?_
    refine xw_i2l (pc := 1980) dL_law_1980 ?_
    refine xw_lcmp (pc := 1981) dL_law_1981 rfl ?_
    refine xw_if_eq (pc := 1982) 1987 dL_law_1982 rfl (fun hb1982 => ?_) (fun hb1982 => ?_)
    rotate_left
    · exfalso
      exact hb1982 lg_s
    refine xw_goto (pc := 1987) 3272 dL_law_1987 rfl ?_
    refine xw_pick (pc := 3272) (l' := [(0, _), (1, _), (2, _), (3, _), (4, _), (5, _)]) [2, 3, 4, 5, 6, 7] rfl ?_
    exact k _ _ hJ2 hsz
theorem LC_work {d : Nat} {x m out outD sc len : Nat} {scr : Nat → Int32} {h : xG} {S : xMS} {i : Nat} (hJ : xJ x m out outD sc len scr h S) (hi : i + 6 ≤ len) (hl : len ≤ 144) {Q : Option Value ⊕ Nat → xG → Prop} (k : ∀ h' S', xJ x m out outD sc len scr h' S' → xsz h' + xsl h' ≤ xsz h + xsl h + 46100 → XW M_L_law (d + 92) 3272 [(0, .ref sc), (1, .ref x), (2, .ref m), (3, .ref out), (4, .ref outD), (5, .int (nI i))] [] h' Q) : XW M_L_law (d + 92) 1990 [(0, .ref sc), (1, .ref x), (2, .ref m), (3, .ref out), (4, .ref outD), (5, .int (nI i))] [] h Q := by
  obtain ⟨p_, lk_, fa_, ka_, la_, Z_, n_, rr_, ww_, dq_, da_, hh_, ps_, sv_, hp_⟩ := hJ.1.1.p
  have hx : xtag h x = 1 := hp_.M.tx
  have c1 := hJ.2.2.2.2.1
  have c3 := hJ.2.2.2.2.2.2.1
  have c4 := hJ.2.2.2.2.2.2.2
  have oo := hJ.2.2.1
  have oD := hJ.2.2.2.1
  obtain ⟨c, b, S', hc, hP, hR, hW⟩ := W_work (out := out) hJ.1.1 hJ.1.2 hx oo (p0 := scr (i + 1)) (p1 := scr (i + 2)) (p2 := scr (i + 3)) (p3 := scr (i + 4))
  refine xw_aload_n (pc := 1990) dL_law_1990 1 rfl ?_
  refine xw_aload_n (pc := 1991) dL_law_1991 0 rfl ?_
  refine xw_iload (pc := 1992) dL_law_1992 5 rfl ?_
  refine xw_iconst (v := nI 1) (pc := 1994) dL_law_1994 rfl ?_
  refine xn_iadd (pc := 1995) dL_law_1995 ?_
  refine xw_iald (k := (i + 1)) (pc := 1996) dL_law_1996 (by simp [-List.getD_eq_getElem?_getD, xE_setI, xsz_setI, xsl_setI, xtag_setI, xown_setI, xlen_setI, xE_setR, xsz_setR, xsl_setR, xtag_setR, xown_setR, xlen_setR, xE_setW, xsz_setW, xsl_setW, xtag_setW, xown_setW, xlen_setW, xi_setR, xi_setW, xr_setI, xr_setW, xww_setI, xww_setR, xi_setI, xr_setR, xww_setW, xE_new, xsz_new, xsl_new, hx, c1]) rfl (by rw [c3]; omega) ?_
  rw [c4 (i + 1) (by omega)]
  refine xw_aload_n (pc := 1997) dL_law_1997 0 rfl ?_
  refine xw_iload (pc := 1998) dL_law_1998 5 rfl ?_
  refine xw_iconst (v := nI 2) (pc := 2000) dL_law_2000 rfl ?_
  refine xn_iadd (pc := 2001) dL_law_2001 ?_
  refine xw_iald (k := (i + 2)) (pc := 2002) dL_law_2002 (by simp [-List.getD_eq_getElem?_getD, xE_setI, xsz_setI, xsl_setI, xtag_setI, xown_setI, xlen_setI, xE_setR, xsz_setR, xsl_setR, xtag_setR, xown_setR, xlen_setR, xE_setW, xsz_setW, xsl_setW, xtag_setW, xown_setW, xlen_setW, xi_setR, xi_setW, xr_setI, xr_setW, xww_setI, xww_setR, xi_setI, xr_setR, xww_setW, xE_new, xsz_new, xsl_new, hx, c1]) rfl (by rw [c3]; omega) ?_
  rw [c4 (i + 2) (by omega)]
  refine xw_aload_n (pc := 2003) dL_law_2003 0 rfl ?_
  refine xw_iload (pc := 2004) dL_law_2004 5 rfl ?_
  refine xw_iconst (v := nI 3) (pc := 2006) dL_law_2006 rfl ?_
  refine xn_iadd (pc := 2007) dL_law_2007 ?_
  refine xw_iald (k := (i + 3)) (pc := 2008) dL_law_2008 (by simp [-List.getD_eq_getElem?_getD, xE_setI, xsz_setI, xsl_setI, xtag_setI, xown_setI, xlen_setI, xE_setR, xsz_setR, xsl_setR, xtag_setR, xown_setR, xlen_setR, xE_setW, xsz_setW, xsl_setW, xtag_setW, xown_setW, xlen_setW, xi_setR, xi_setW, xr_setI, xr_setW, xww_setI, xww_setR, xi_setI, xr_setR, xww_setW, xE_new, xsz_new, xsl_new, hx, c1]) rfl (by rw [c3]; omega) ?_
  rw [c4 (i + 3) (by omega)]
  refine xw_aload_n (pc := 2009) dL_law_2009 0 rfl ?_
  refine xw_iload (pc := 2010) dL_law_2010 5 rfl ?_
  refine xw_iconst (v := nI 4) (pc := 2012) dL_law_2012 rfl ?_
  refine xn_iadd (pc := 2013) dL_law_2013 ?_
  refine xw_iald (k := (i + 4)) (pc := 2014) dL_law_2014 (by simp [-List.getD_eq_getElem?_getD, xE_setI, xsz_setI, xsl_setI, xtag_setI, xown_setI, xlen_setI, xE_setR, xsz_setR, xsl_setR, xtag_setR, xown_setR, xlen_setR, xE_setW, xsz_setW, xsl_setW, xtag_setW, xown_setW, xlen_setW, xi_setR, xi_setW, xr_setI, xr_setW, xww_setI, xww_setR, xi_setI, xr_setR, xww_setW, xE_new, xsz_new, xsl_new, hx, c1]) rfl (by rw [c3]; omega) ?_
  rw [c4 (i + 4) (by omega)]
  refine xw_aload_n (pc := 2015) dL_law_2015 3 rfl ?_
  refine xw_callF (pc := 2016) (xr_SX (as := [_, _, _, _, _, _]) ok_X0_work rfl (by decide) q1624 q1625 dL_law_2016 rfl rfl (Nat.le_of_ble_eq_true rfl)) (hW d) ?_
  intro g1 hc1 hm1
  obtain ⟨st1, F1, w1⟩ := hc1
  refine xw_istore (l' := [(6, _), (0, _), (1, _), (2, _), (3, _), (4, _), (5, _)]) (pc := 2019) dL_law_2019 (by decide) rfl ?_
  obtain ⟨hK1, ⟨hM1, h31, he1⟩, ho1, hoD1, hs1⟩ := hJ.mid st1 F1 (by unfold oW; omega) (by unfold oW; omega)
  have tw1 : xtag (xWith g1 m S) sc = 101 := (he1.ti.1 sc).trans hs1.1
  have lw1 : xlen (xWith g1 m S) sc = len := (he1.ti.2.1 sc).trans hs1.2.2.1
  have iw1 : ∀ j, j < len → xi (xWith g1 m S) sc j = scr j := fun j hj => (he1.ti.2.2 sc j).trans (hs1.2.2.2 j hj)
  refine XW.eqv he1.symm ?_
  refine xw_aload_n (pc := 2021) dL_law_2021 3 rfl ?_
  refine xw_aload_n (pc := 2022) dL_law_2022 1 rfl ?_
  refine xw_iload (pc := 2023) dL_law_2023 6 rfl ?_
  refine xw_iconst (v := nI 1) (pc := 2025) dL_law_2025 rfl ?_
  refine xn_iadd (pc := 2026) dL_law_2026 ?_
  refine xw_iald (k := (i + 1)) (pc := 2027) dL_law_2027 (by simp [-List.getD_eq_getElem?_getD, xE_setI, xsz_setI, xsl_setI, xtag_setI, xown_setI, xlen_setI, xE_setR, xsz_setR, xsl_setR, xtag_setR, xown_setR, xlen_setR, xE_setW, xsz_setW, xsl_setW, xtag_setW, xown_setW, xlen_setW, xi_setR, xi_setW, xr_setI, xr_setW, xww_setI, xww_setR, xi_setI, xr_setR, xww_setW, xE_new, xsz_new, xsl_new, hx, c1, tw1]) rfl (by rw [lw1]; omega) ?_
  rw [iw1 (i + 1) (by omega)]
  refine xw_aload_n (pc := 2028) dL_law_2028 1 rfl ?_
  refine xw_iload (pc := 2029) dL_law_2029 6 rfl ?_
  refine xw_iconst (v := nI 2) (pc := 2031) dL_law_2031 rfl ?_
  refine xn_iadd (pc := 2032) dL_law_2032 ?_
  refine xw_iald (k := (i + 2)) (pc := 2033) dL_law_2033 (by simp [-List.getD_eq_getElem?_getD, xE_setI, xsz_setI, xsl_setI, xtag_setI, xown_setI, xlen_setI, xE_setR, xsz_setR, xsl_setR, xtag_setR, xown_setR, xlen_setR, xE_setW, xsz_setW, xsl_setW, xtag_setW, xown_setW, xlen_setW, xi_setR, xi_setW, xr_setI, xr_setW, xww_setI, xww_setR, xi_setI, xr_setR, xww_setW, xE_new, xsz_new, xsl_new, hx, c1, tw1]) rfl (by rw [lw1]; omega) ?_
  rw [iw1 (i + 2) (by omega)]
  refine xw_aload_n (pc := 2034) dL_law_2034 1 rfl ?_
  refine xw_iload (pc := 2035) dL_law_2035 6 rfl ?_
  refine xw_iconst (v := nI 3) (pc := 2037) dL_law_2037 rfl ?_
  refine xn_iadd (pc := 2038) dL_law_2038 ?_
  refine xw_iald (k := (i + 3)) (pc := 2039) dL_law_2039 (by simp [-List.getD_eq_getElem?_getD, xE_setI, xsz_setI, xsl_setI, xtag_setI, xown_setI, xlen_setI, xE_setR, xsz_setR, xsl_setR, xtag_setR, xown_setR, xlen_setR, xE_setW, xsz_setW, xsl_setW, xtag_setW, xown_setW, xlen_setW, xi_setR, xi_setW, xr_setI, xr_setW, xww_setI, xww_setR, xi_setI, xr_setR, xww_setW, xE_new, xsz_new, xsl_new, hx, c1, tw1]) rfl (by rw [lw1]; omega) ?_
  rw [iw1 (i + 3) (by omega)]
  refine xw_aload_n (pc := 2040) dL_law_2040 1 rfl ?_
  refine xw_iload (pc := 2041) dL_law_2041 6 rfl ?_
  refine xw_iconst (v := nI 4) (pc := 2043) dL_law_2043 rfl ?_
  refine xn_iadd (pc := 2044) dL_law_2044 ?_
  refine xw_iald (k := (i + 4)) (pc := 2045) dL_law_2045 (by simp [-List.getD_eq_getElem?_getD, xE_setI, xsz_setI, xsl_setI, xtag_setI, xown_setI, xlen_setI, xE_setR, xsz_setR, xsl_setR, xtag_setR, xown_setR, xlen_setR, xE_setW, xsz_setW, xsl_setW, xtag_setW, xown_setW, xlen_setW, xi_setR, xi_setW, xr_setI, xr_setW, xww_setI, xww_setR, xi_setI, xr_setR, xww_setW, xE_new, xsz_new, xsl_new, hx, c1, tw1]) rfl (by rw [lw1]; omega) ?_
  rw [iw1 (i + 4) (by omega)]
  refine xw_callF (pc := 2046) (xr_V (as := [_, _, _, _]) ok_X6_work rfl (by decide) q2582 q2583 q2584 (by rw [xtag_with]; first | (rw [hM1.1]; rfl) | (rw [hM3.1]; rfl)) (by rw [xtag_with]; first | (rw [hM1.1]; rfl) | (rw [hM3.1]; rfl)) dL_law_2046 rfl rfl (Nat.le_of_ble_eq_true rfl)) (jR.val (hR (d + 1) g1 m hM1 h31 hK1)) ?_
  intro g2 hc2 hm2
  obtain ⟨g3, T, e3, ag, c6, hM3, h33, F3⟩ := hc2
  subst e3
  obtain ⟨hJ2, F4⟩ := xJ.done st1 hK1 ho1 hoD1 hs1 ag hM3 h33 F3
  have hsz : xsz (xWith g3 m T) + xsl (xWith g3 m T) ≤ xsz h + xsl h + 46100 := by
    have := F1.2.2.2.1
    have := F4.2.2.2.1
    omega
  have t2o := hJ2.2.2.1.1
  have t2D := hJ2.2.2.2.1.1
  refine xw_istore (l' := [(7, _), (6, _), (0, _), (1, _), (2, _), (3, _), (4, _), (5, _)]) (pc := 2049) dL_law_2049 (by decide) rfl ?_
  refine xw_aload_n (pc := 2051) dL_law_2051 4 rfl ?_
  refine xw_callV (pc := 2052) (xr_V (as := []) ok_X6_thrown rfl (by decide) q2352 q2353 q2354 (by rw [xtag_with]; first | (rw [hM1.1]; rfl) | (rw [hM3.1]; rfl)) (by rw [xtag_with]; first | (rw [hM1.1]; rfl) | (rw [hM3.1]; rfl)) dL_law_2052 rfl rfl (Nat.le_of_ble_eq_true rfl)) (by have z := SP_X6_thrown (d := d + 91) (S := T) hM3; rw [c6] at z; exact z) ?_
  refine xw_iload (pc := 2055) dL_law_2055 1 rfl ?_
  refine xw_icmp_eq (pc := 2057) 2062 dL_law_2057 rfl (fun hb2057 => ?_) (fun hb2057 => ?_)
  rotate_left
  · exfalso
    replace hb2057 : ¬ (c = c) := mt (nI_eq (a := c) (b := c) (by omega) (by omega)).mpr hb2057
    omega
  replace hb2057 : c = c := (nI_eq (a := c) (b := c) (by omega) (by omega)).mp hb2057
  refine xw_iload (pc := 2062) dL_law_2062 1 rfl ?_
  refine xw_if_ne (pc := 2064) 2079 dL_law_2064 rfl (fun hb2064 => ?_) (fun hb2064 => ?_)
  · replace hb2064 : ¬ (c = 0) := mt (nI_eq (a := c) (b := 0) (by omega) (by omega)).mpr hb2064
    refine xw_goto (pc := 2079) 3272 dL_law_2079 rfl ?_
    refine xw_pick (pc := 3272) (l' := [(0, _), (1, _), (2, _), (3, _), (4, _), (5, _)]) [2, 3, 4, 5, 6, 7] rfl ?_
    exact k _ _ hJ2 hsz
  · replace hb2064 : c = 0 := (nI_eq (a := c) (b := 0) (by omega) (by omega)).mp hb2064
    refine xw_aload_n (pc := 2067) dL_law_2067 5 rfl ?_
    refine xw_iconst (v := nI 0) (pc := 2068) dL_law_2068 rfl ?_
    have wE : xw (xWith g3 m T) out 0 = _ := (F4.w' (xlt (by rw [ho1.1]; decide)) (by rw [ho1.2.1]; unfold o313; omega)).trans (w1 hb2064)
    refine xw_lald (k := 0) (pc := 2069) dL_law_2069 (by simp [-List.getD_eq_getElem?_getD, xE_setI, xsz_setI, xsl_setI, xtag_setI, xown_setI, xlen_setI, xE_setR, xsz_setR, xsl_setR, xtag_setR, xown_setR, xlen_setR, xE_setW, xsz_setW, xsl_setW, xtag_setW, xown_setW, xlen_setW, xi_setR, xi_setW, xr_setI, xr_setW, xww_setI, xww_setR, xi_setI, xr_setR, xww_setW, xE_new, xsz_new, xsl_new, hx, c1, tw1, t2o, t2D]) rfl (by rw [hJ2.2.2.1.2.2]; decide) ?_
    rw [wE]
    refine xw_iload (pc := 2070) dL_law_2070 0 rfl ?_
    refine xw_i2l (pc := 2072) dL_law_2072 ?_
    refine xw_lcmp (pc := 2073) dL_law_2073 rfl ?_
    refine xw_if_eq (pc := 2074) 2079 dL_law_2074 rfl (fun hb2074 => ?_) (fun hb2074 => ?_)
    rotate_left
    · exfalso
      exact hb2074 lg_s
    refine xw_goto (pc := 2079) 3272 dL_law_2079 rfl ?_
    refine xw_pick (pc := 3272) (l' := [(0, _), (1, _), (2, _), (3, _), (4, _), (5, _)]) [2, 3, 4, 5, 6, 7] rfl ?_
    exact k _ _ hJ2 hsz
theorem LC_caseOf {d : Nat} {x m out outD sc len : Nat} {scr : Nat → Int32} {h : xG} {S : xMS} {i : Nat} (hJ : xJ x m out outD sc len scr h S) (hi : i + 6 ≤ len) (hl : len ≤ 144) {Q : Option Value ⊕ Nat → xG → Prop} (k : ∀ h' S', xJ x m out outD sc len scr h' S' → xsz h' + xsl h' ≤ xsz h + xsl h + 46100 → XW M_L_law (d + 92) 3272 [(0, .ref sc), (1, .ref x), (2, .ref m), (3, .ref out), (4, .ref outD), (5, .int (nI i))] [] h' Q) : XW M_L_law (d + 92) 2082 [(0, .ref sc), (1, .ref x), (2, .ref m), (3, .ref out), (4, .ref outD), (5, .int (nI i))] [] h Q := by
  obtain ⟨p_, lk_, fa_, ka_, la_, Z_, n_, rr_, ww_, dq_, da_, hh_, ps_, sv_, hp_⟩ := hJ.1.1.p
  have hx : xtag h x = 1 := hp_.M.tx
  have c1 := hJ.2.2.2.2.1
  have c3 := hJ.2.2.2.2.2.2.1
  have c4 := hJ.2.2.2.2.2.2.2
  have oo := hJ.2.2.1
  have oD := hJ.2.2.2.1
  obtain ⟨c, b, S', hc, hP, hR, hW⟩ := W_caseOf (out := out) hJ.1.1 hJ.1.2 hx oo (p0 := scr (i + 1)) (p1 := scr (i + 2))
  refine xw_aload_n (pc := 2082) dL_law_2082 1 rfl ?_
  refine xw_aload_n (pc := 2083) dL_law_2083 0 rfl ?_
  refine xw_iload (pc := 2084) dL_law_2084 5 rfl ?_
  refine xw_iconst (v := nI 1) (pc := 2086) dL_law_2086 rfl ?_
  refine xn_iadd (pc := 2087) dL_law_2087 ?_
  refine xw_iald (k := (i + 1)) (pc := 2088) dL_law_2088 (by simp [-List.getD_eq_getElem?_getD, xE_setI, xsz_setI, xsl_setI, xtag_setI, xown_setI, xlen_setI, xE_setR, xsz_setR, xsl_setR, xtag_setR, xown_setR, xlen_setR, xE_setW, xsz_setW, xsl_setW, xtag_setW, xown_setW, xlen_setW, xi_setR, xi_setW, xr_setI, xr_setW, xww_setI, xww_setR, xi_setI, xr_setR, xww_setW, xE_new, xsz_new, xsl_new, hx, c1]) rfl (by rw [c3]; omega) ?_
  rw [c4 (i + 1) (by omega)]
  refine xw_aload_n (pc := 2089) dL_law_2089 0 rfl ?_
  refine xw_iload (pc := 2090) dL_law_2090 5 rfl ?_
  refine xw_iconst (v := nI 2) (pc := 2092) dL_law_2092 rfl ?_
  refine xn_iadd (pc := 2093) dL_law_2093 ?_
  refine xw_iald (k := (i + 2)) (pc := 2094) dL_law_2094 (by simp [-List.getD_eq_getElem?_getD, xE_setI, xsz_setI, xsl_setI, xtag_setI, xown_setI, xlen_setI, xE_setR, xsz_setR, xsl_setR, xtag_setR, xown_setR, xlen_setR, xE_setW, xsz_setW, xsl_setW, xtag_setW, xown_setW, xlen_setW, xi_setR, xi_setW, xr_setI, xr_setW, xww_setI, xww_setR, xi_setI, xr_setR, xww_setW, xE_new, xsz_new, xsl_new, hx, c1]) rfl (by rw [c3]; omega) ?_
  rw [c4 (i + 2) (by omega)]
  refine xw_aload_n (pc := 2095) dL_law_2095 3 rfl ?_
  refine xw_callF (pc := 2096) (xr_SX (as := [_, _, _, _]) ok_X0_caseOf rfl (by decide) q1653 q1654 dL_law_2096 rfl rfl (Nat.le_of_ble_eq_true rfl)) (hW d) ?_
  intro g1 hc1 hm1
  obtain ⟨st1, F1, w1⟩ := hc1
  refine xw_istore (l' := [(6, _), (0, _), (1, _), (2, _), (3, _), (4, _), (5, _)]) (pc := 2099) dL_law_2099 (by decide) rfl ?_
  obtain ⟨hK1, ⟨hM1, h31, he1⟩, ho1, hoD1, hs1⟩ := hJ.mid st1 F1 (by unfold oW; omega) (by unfold oW; omega)
  have tw1 : xtag (xWith g1 m S) sc = 101 := (he1.ti.1 sc).trans hs1.1
  have lw1 : xlen (xWith g1 m S) sc = len := (he1.ti.2.1 sc).trans hs1.2.2.1
  have iw1 : ∀ j, j < len → xi (xWith g1 m S) sc j = scr j := fun j hj => (he1.ti.2.2 sc j).trans (hs1.2.2.2 j hj)
  refine XW.eqv he1.symm ?_
  refine xw_aload_n (pc := 2101) dL_law_2101 3 rfl ?_
  refine xw_aload_n (pc := 2102) dL_law_2102 1 rfl ?_
  refine xw_iload (pc := 2103) dL_law_2103 6 rfl ?_
  refine xw_iconst (v := nI 1) (pc := 2105) dL_law_2105 rfl ?_
  refine xn_iadd (pc := 2106) dL_law_2106 ?_
  refine xw_iald (k := (i + 1)) (pc := 2107) dL_law_2107 (by simp [-List.getD_eq_getElem?_getD, xE_setI, xsz_setI, xsl_setI, xtag_setI, xown_setI, xlen_setI, xE_setR, xsz_setR, xsl_setR, xtag_setR, xown_setR, xlen_setR, xE_setW, xsz_setW, xsl_setW, xtag_setW, xown_setW, xlen_setW, xi_setR, xi_setW, xr_setI, xr_setW, xww_setI, xww_setR, xi_setI, xr_setR, xww_setW, xE_new, xsz_new, xsl_new, hx, c1, tw1]) rfl (by rw [lw1]; omega) ?_
  rw [iw1 (i + 1) (by omega)]
  refine xw_aload_n (pc := 2108) dL_law_2108 1 rfl ?_
  refine xw_iload (pc := 2109) dL_law_2109 6 rfl ?_
  refine xw_iconst (v := nI 2) (pc := 2111) dL_law_2111 rfl ?_
  refine xn_iadd (pc := 2112) dL_law_2112 ?_
  refine xw_iald (k := (i + 2)) (pc := 2113) dL_law_2113 (by simp [-List.getD_eq_getElem?_getD, xE_setI, xsz_setI, xsl_setI, xtag_setI, xown_setI, xlen_setI, xE_setR, xsz_setR, xsl_setR, xtag_setR, xown_setR, xlen_setR, xE_setW, xsz_setW, xsl_setW, xtag_setW, xown_setW, xlen_setW, xi_setR, xi_setW, xr_setI, xr_setW, xww_setI, xww_setR, xi_setI, xr_setR, xww_setW, xE_new, xsz_new, xsl_new, hx, c1, tw1]) rfl (by rw [lw1]; omega) ?_
  rw [iw1 (i + 2) (by omega)]
  refine xw_callF (pc := 2114) (xr_V (as := [_, _]) ok_X6_caseOf rfl (by decide) q2586 q2587 q2588 (by rw [xtag_with]; first | (rw [hM1.1]; rfl) | (rw [hM3.1]; rfl)) (by rw [xtag_with]; first | (rw [hM1.1]; rfl) | (rw [hM3.1]; rfl)) dL_law_2114 rfl rfl (Nat.le_of_ble_eq_true rfl)) (jR.val (hR (d + 1) g1 m hM1 h31 hK1)) ?_
  intro g2 hc2 hm2
  obtain ⟨g3, T, e3, ag, c6, hM3, h33, F3⟩ := hc2
  subst e3
  obtain ⟨hJ2, F4⟩ := xJ.done st1 hK1 ho1 hoD1 hs1 ag hM3 h33 F3
  have hsz : xsz (xWith g3 m T) + xsl (xWith g3 m T) ≤ xsz h + xsl h + 46100 := by
    have := F1.2.2.2.1
    have := F4.2.2.2.1
    omega
  have t2o := hJ2.2.2.1.1
  have t2D := hJ2.2.2.2.1.1
  refine xw_istore (l' := [(7, _), (6, _), (0, _), (1, _), (2, _), (3, _), (4, _), (5, _)]) (pc := 2117) dL_law_2117 (by decide) rfl ?_
  refine xw_aload_n (pc := 2119) dL_law_2119 4 rfl ?_
  refine xw_callV (pc := 2120) (xr_V (as := []) ok_X6_thrown rfl (by decide) q2352 q2353 q2354 (by rw [xtag_with]; first | (rw [hM1.1]; rfl) | (rw [hM3.1]; rfl)) (by rw [xtag_with]; first | (rw [hM1.1]; rfl) | (rw [hM3.1]; rfl)) dL_law_2120 rfl rfl (Nat.le_of_ble_eq_true rfl)) (by have z := SP_X6_thrown (d := d + 91) (S := T) hM3; rw [c6] at z; exact z) ?_
  refine xw_iload (pc := 2123) dL_law_2123 1 rfl ?_
  refine xw_icmp_eq (pc := 2125) 2130 dL_law_2125 rfl (fun hb2125 => ?_) (fun hb2125 => ?_)
  rotate_left
  · exfalso
    replace hb2125 : ¬ (c = c) := mt (nI_eq (a := c) (b := c) (by omega) (by omega)).mpr hb2125
    omega
  replace hb2125 : c = c := (nI_eq (a := c) (b := c) (by omega) (by omega)).mp hb2125
  refine xw_iload (pc := 2130) dL_law_2130 1 rfl ?_
  refine xw_if_ne (pc := 2132) 2147 dL_law_2132 rfl (fun hb2132 => ?_) (fun hb2132 => ?_)
  · replace hb2132 : ¬ (c = 0) := mt (nI_eq (a := c) (b := 0) (by omega) (by omega)).mpr hb2132
    refine xw_goto (pc := 2147) 3272 dL_law_2147 rfl ?_
    refine xw_pick (pc := 3272) (l' := [(0, _), (1, _), (2, _), (3, _), (4, _), (5, _)]) [2, 3, 4, 5, 6, 7] rfl ?_
    exact k _ _ hJ2 hsz
  · replace hb2132 : c = 0 := (nI_eq (a := c) (b := 0) (by omega) (by omega)).mp hb2132
    refine xw_aload_n (pc := 2135) dL_law_2135 5 rfl ?_
    refine xw_iconst (v := nI 0) (pc := 2136) dL_law_2136 rfl ?_
    have wE : xw (xWith g3 m T) out 0 = _ := (F4.w' (xlt (by rw [ho1.1]; decide)) (by rw [ho1.2.1]; unfold o313; omega)).trans (w1 hb2132)
    refine xw_lald (k := 0) (pc := 2137) dL_law_2137 (by simp [-List.getD_eq_getElem?_getD, xE_setI, xsz_setI, xsl_setI, xtag_setI, xown_setI, xlen_setI, xE_setR, xsz_setR, xsl_setR, xtag_setR, xown_setR, xlen_setR, xE_setW, xsz_setW, xsl_setW, xtag_setW, xown_setW, xlen_setW, xi_setR, xi_setW, xr_setI, xr_setW, xww_setI, xww_setR, xi_setI, xr_setR, xww_setW, xE_new, xsz_new, xsl_new, hx, c1, tw1, t2o, t2D]) rfl (by rw [hJ2.2.2.1.2.2]; decide) ?_
    rw [wE]
    refine xw_iload (pc := 2138) dL_law_2138 0 rfl ?_
    refine xw_i2l (pc := 2140) dL_law_2140 ?_
    refine xw_lcmp (pc := 2141) dL_law_2141 rfl ?_
    refine xw_if_eq (pc := 2142) 2147 dL_law_2142 rfl (fun hb2142 => ?_) (fun hb2142 => ?_)
    rotate_left
    · exfalso
      exact hb2142 lg_s
    refine xw_goto (pc := 2147) 3272 dL_law_2147 rfl ?_
    refine xw_pick (pc := 3272) (l' := [(0, _), (1, _), (2, _), (3, _), (4, _), (5, _)]) [2, 3, 4, 5, 6, 7] rfl ?_
    exact k _ _ hJ2 hsz
theorem LC_dropCase {d : Nat} {x m out outD sc len : Nat} {scr : Nat → Int32} {h : xG} {S : xMS} {i : Nat} (hJ : xJ x m out outD sc len scr h S) (hi : i + 6 ≤ len) (hl : len ≤ 144) {Q : Option Value ⊕ Nat → xG → Prop} (k : ∀ h' S', xJ x m out outD sc len scr h' S' → xsz h' + xsl h' ≤ xsz h + xsl h + 46100 → XW M_L_law (d + 92) 3272 [(0, .ref sc), (1, .ref x), (2, .ref m), (3, .ref out), (4, .ref outD), (5, .int (nI i))] [] h' Q) : XW M_L_law (d + 92) 2150 [(0, .ref sc), (1, .ref x), (2, .ref m), (3, .ref out), (4, .ref outD), (5, .int (nI i))] [] h Q := by
  obtain ⟨p_, lk_, fa_, ka_, la_, Z_, n_, rr_, ww_, dq_, da_, hh_, ps_, sv_, hp_⟩ := hJ.1.1.p
  have hx : xtag h x = 1 := hp_.M.tx
  have c1 := hJ.2.2.2.2.1
  have c3 := hJ.2.2.2.2.2.2.1
  have c4 := hJ.2.2.2.2.2.2.2
  have oo := hJ.2.2.1
  have oD := hJ.2.2.2.1
  obtain ⟨c, b, S', hc, hP, hR, hW⟩ := W_dropCase (out := out) hJ.1.1 hJ.1.2 hx oo (p0 := scr (i + 1))
  refine xw_aload_n (pc := 2150) dL_law_2150 1 rfl ?_
  refine xw_aload_n (pc := 2151) dL_law_2151 0 rfl ?_
  refine xw_iload (pc := 2152) dL_law_2152 5 rfl ?_
  refine xw_iconst (v := nI 1) (pc := 2154) dL_law_2154 rfl ?_
  refine xn_iadd (pc := 2155) dL_law_2155 ?_
  refine xw_iald (k := (i + 1)) (pc := 2156) dL_law_2156 (by simp [-List.getD_eq_getElem?_getD, xE_setI, xsz_setI, xsl_setI, xtag_setI, xown_setI, xlen_setI, xE_setR, xsz_setR, xsl_setR, xtag_setR, xown_setR, xlen_setR, xE_setW, xsz_setW, xsl_setW, xtag_setW, xown_setW, xlen_setW, xi_setR, xi_setW, xr_setI, xr_setW, xww_setI, xww_setR, xi_setI, xr_setR, xww_setW, xE_new, xsz_new, xsl_new, hx, c1]) rfl (by rw [c3]; omega) ?_
  rw [c4 (i + 1) (by omega)]
  refine xw_aload_n (pc := 2157) dL_law_2157 3 rfl ?_
  refine xw_callF (pc := 2158) (xr_SX (as := [_, _, _]) ok_X0_dropCase rfl (by decide) q1673 q1674 dL_law_2158 rfl rfl (Nat.le_of_ble_eq_true rfl)) (hW d) ?_
  intro g1 hc1 hm1
  obtain ⟨st1, F1, w1⟩ := hc1
  refine xw_istore (l' := [(6, _), (0, _), (1, _), (2, _), (3, _), (4, _), (5, _)]) (pc := 2161) dL_law_2161 (by decide) rfl ?_
  obtain ⟨hK1, ⟨hM1, h31, he1⟩, ho1, hoD1, hs1⟩ := hJ.mid st1 F1 (by unfold oW; omega) (by unfold oW; omega)
  have tw1 : xtag (xWith g1 m S) sc = 101 := (he1.ti.1 sc).trans hs1.1
  have lw1 : xlen (xWith g1 m S) sc = len := (he1.ti.2.1 sc).trans hs1.2.2.1
  have iw1 : ∀ j, j < len → xi (xWith g1 m S) sc j = scr j := fun j hj => (he1.ti.2.2 sc j).trans (hs1.2.2.2 j hj)
  refine XW.eqv he1.symm ?_
  refine xw_aload_n (pc := 2163) dL_law_2163 3 rfl ?_
  refine xw_aload_n (pc := 2164) dL_law_2164 1 rfl ?_
  refine xw_iload (pc := 2165) dL_law_2165 6 rfl ?_
  refine xw_iconst (v := nI 1) (pc := 2167) dL_law_2167 rfl ?_
  refine xn_iadd (pc := 2168) dL_law_2168 ?_
  refine xw_iald (k := (i + 1)) (pc := 2169) dL_law_2169 (by simp [-List.getD_eq_getElem?_getD, xE_setI, xsz_setI, xsl_setI, xtag_setI, xown_setI, xlen_setI, xE_setR, xsz_setR, xsl_setR, xtag_setR, xown_setR, xlen_setR, xE_setW, xsz_setW, xsl_setW, xtag_setW, xown_setW, xlen_setW, xi_setR, xi_setW, xr_setI, xr_setW, xww_setI, xww_setR, xi_setI, xr_setR, xww_setW, xE_new, xsz_new, xsl_new, hx, c1, tw1]) rfl (by rw [lw1]; omega) ?_
  rw [iw1 (i + 1) (by omega)]
  refine xw_callF (pc := 2170) (xr_V (as := [_]) ok_X6_dropCase rfl (by decide) q2606 q2607 q2608 (by rw [xtag_with]; first | (rw [hM1.1]; rfl) | (rw [hM3.1]; rfl)) (by rw [xtag_with]; first | (rw [hM1.1]; rfl) | (rw [hM3.1]; rfl)) dL_law_2170 rfl rfl (Nat.le_of_ble_eq_true rfl)) (jR.val (hR (d + 1) g1 m hM1 h31 hK1)) ?_
  intro g2 hc2 hm2
  obtain ⟨g3, T, e3, ag, c6, hM3, h33, F3⟩ := hc2
  subst e3
  obtain ⟨hJ2, F4⟩ := xJ.done st1 hK1 ho1 hoD1 hs1 ag hM3 h33 F3
  have hsz : xsz (xWith g3 m T) + xsl (xWith g3 m T) ≤ xsz h + xsl h + 46100 := by
    have := F1.2.2.2.1
    have := F4.2.2.2.1
    omega
  have t2o := hJ2.2.2.1.1
  have t2D := hJ2.2.2.2.1.1
  refine xw_istore (l' := [(7, _), (6, _), (0, _), (1, _), (2, _), (3, _), (4, _), (5, _)]) (pc := 2173) dL_law_2173 (by decide) rfl ?_
  refine xw_aload_n (pc := 2175) dL_law_2175 4 rfl ?_
  refine xw_callV (pc := 2176) (xr_V (as := []) ok_X6_thrown rfl (by decide) q2352 q2353 q2354 (by rw [xtag_with]; first | (rw [hM1.1]; rfl) | (rw [hM3.1]; rfl)) (by rw [xtag_with]; first | (rw [hM1.1]; rfl) | (rw [hM3.1]; rfl)) dL_law_2176 rfl rfl (Nat.le_of_ble_eq_true rfl)) (by have z := SP_X6_thrown (d := d + 91) (S := T) hM3; rw [c6] at z; exact z) ?_
  refine xw_iload (pc := 2179) dL_law_2179 1 rfl ?_
  refine xw_icmp_eq (pc := 2181) 2186 dL_law_2181 rfl (fun hb2181 => ?_) (fun hb2181 => ?_)
  rotate_left
  · exfalso
    replace hb2181 : ¬ (c = c) := mt (nI_eq (a := c) (b := c) (by omega) (by omega)).mpr hb2181
    omega
  replace hb2181 : c = c := (nI_eq (a := c) (b := c) (by omega) (by omega)).mp hb2181
  refine xw_iload (pc := 2186) dL_law_2186 1 rfl ?_
  refine xw_if_ne (pc := 2188) 2203 dL_law_2188 rfl (fun hb2188 => ?_) (fun hb2188 => ?_)
  · replace hb2188 : ¬ (c = 0) := mt (nI_eq (a := c) (b := 0) (by omega) (by omega)).mpr hb2188
    refine xw_goto (pc := 2203) 3272 dL_law_2203 rfl ?_
    refine xw_pick (pc := 3272) (l' := [(0, _), (1, _), (2, _), (3, _), (4, _), (5, _)]) [2, 3, 4, 5, 6, 7] rfl ?_
    exact k _ _ hJ2 hsz
  · replace hb2188 : c = 0 := (nI_eq (a := c) (b := 0) (by omega) (by omega)).mp hb2188
    refine xw_aload_n (pc := 2191) dL_law_2191 5 rfl ?_
    refine xw_iconst (v := nI 0) (pc := 2192) dL_law_2192 rfl ?_
    have wE : xw (xWith g3 m T) out 0 = _ := (F4.w' (xlt (by rw [ho1.1]; decide)) (by rw [ho1.2.1]; unfold o313; omega)).trans (w1 hb2188)
    refine xw_lald (k := 0) (pc := 2193) dL_law_2193 (by simp [-List.getD_eq_getElem?_getD, xE_setI, xsz_setI, xsl_setI, xtag_setI, xown_setI, xlen_setI, xE_setR, xsz_setR, xsl_setR, xtag_setR, xown_setR, xlen_setR, xE_setW, xsz_setW, xsl_setW, xtag_setW, xown_setW, xlen_setW, xi_setR, xi_setW, xr_setI, xr_setW, xww_setI, xww_setR, xi_setI, xr_setR, xww_setW, xE_new, xsz_new, xsl_new, hx, c1, tw1, t2o, t2D]) rfl (by rw [hJ2.2.2.1.2.2]; decide) ?_
    rw [wE]
    refine xw_iload (pc := 2194) dL_law_2194 0 rfl ?_
    refine xw_i2l (pc := 2196) dL_law_2196 ?_
    refine xw_lcmp (pc := 2197) dL_law_2197 rfl ?_
    refine xw_if_eq (pc := 2198) 2203 dL_law_2198 rfl (fun hb2198 => ?_) (fun hb2198 => ?_)
    rotate_left
    · exfalso
      exact hb2198 lg_s
    refine xw_goto (pc := 2203) 3272 dL_law_2203 rfl ?_
    refine xw_pick (pc := 3272) (l' := [(0, _), (1, _), (2, _), (3, _), (4, _), (5, _)]) [2, 3, 4, 5, 6, 7] rfl ?_
    exact k _ _ hJ2 hsz
theorem LC_wrong {d : Nat} {x m out outD sc len : Nat} {scr : Nat → Int32} {h : xG} {S : xMS} {i : Nat} (hJ : xJ x m out outD sc len scr h S) (hi : i + 6 ≤ len) (hl : len ≤ 144) {Q : Option Value ⊕ Nat → xG → Prop} (k : ∀ h' S', xJ x m out outD sc len scr h' S' → xsz h' + xsl h' ≤ xsz h + xsl h + 46100 → XW M_L_law (d + 92) 3272 [(0, .ref sc), (1, .ref x), (2, .ref m), (3, .ref out), (4, .ref outD), (5, .int (nI i))] [] h' Q) : XW M_L_law (d + 92) 2206 [(0, .ref sc), (1, .ref x), (2, .ref m), (3, .ref out), (4, .ref outD), (5, .int (nI i))] [] h Q := by
  obtain ⟨p_, lk_, fa_, ka_, la_, Z_, n_, rr_, ww_, dq_, da_, hh_, ps_, sv_, hp_⟩ := hJ.1.1.p
  have hx : xtag h x = 1 := hp_.M.tx
  have c1 := hJ.2.2.2.2.1
  have c3 := hJ.2.2.2.2.2.2.1
  have c4 := hJ.2.2.2.2.2.2.2
  have oo := hJ.2.2.1
  have oD := hJ.2.2.2.1
  have hj := J_wrong hJ.1.1 hJ.1.2
  rcases hj with ⟨a, S', hW, hR⟩ | ⟨t, c, b, S', hL, -, -⟩
  rotate_left
  · simp at hL
  refine xw_aload_n (pc := 2206) dL_law_2206 1 rfl ?_
  refine xw_callF (pc := 2207) (xr_V (as := []) ok_X1_wrong rfl (by decide) q697 q698 q699 (by rw [hx]; rfl) (by rw [hx]; rfl) dL_law_2207 rfl rfl (Nat.le_of_ble_eq_true rfl)) (hW (d + 1)) ?_
  intro g1 hc1 hm1
  obtain ⟨st1, F1⟩ := hc1
  obtain ⟨hK1, ⟨hM1, h31, he1⟩, ho1, hoD1, hs1⟩ := hJ.mid st1 F1 (by unfold oC; omega) (by unfold oC; omega)
  have tw1 : xtag (xWith g1 m S) sc = 101 := (he1.ti.1 sc).trans hs1.1
  have lw1 : xlen (xWith g1 m S) sc = len := (he1.ti.2.1 sc).trans hs1.2.2.1
  have iw1 : ∀ j, j < len → xi (xWith g1 m S) sc j = scr j := fun j hj => (he1.ti.2.2 sc j).trans (hs1.2.2.2 j hj)
  refine XW.eqv he1.symm ?_
  refine xw_aload_n (pc := 2210) dL_law_2210 2 rfl ?_
  refine xw_callF (pc := 2211) (xr_V (as := []) ok_X6_wrong rfl (by decide) q2610 q2611 q2612 (by rw [xtag_with]; first | (rw [hM1.1]; rfl) | (rw [hM3.1]; rfl)) (by rw [xtag_with]; first | (rw [hM1.1]; rfl) | (rw [hM3.1]; rfl)) dL_law_2211 rfl rfl (Nat.le_of_ble_eq_true rfl)) (jR.val (hR (d + 1) g1 m hM1 h31 hK1)) ?_
  intro g2 hc2 hm2
  obtain ⟨g3, T, e3, ag, c6, hM3, h33, F3⟩ := hc2
  subst e3
  obtain ⟨hJ2, F4⟩ := xJ.done st1 hK1 ho1 hoD1 hs1 ag hM3 h33 F3
  have hsz : xsz (xWith g3 m T) + xsl (xWith g3 m T) ≤ xsz h + xsl h + 46100 := by
    have := F1.2.2.2.1
    have := F4.2.2.2.1
    omega
  have t2o := hJ2.2.2.1.1
  have t2D := hJ2.2.2.2.1.1
  refine xw_icmp_eq (pc := 2214) 3272 dL_law_2214 rfl (fun hb2214 => ?_) (fun hb2214 => ?_)
  rotate_left
  · exfalso
    exact hb2214 rfl
  exact k _ _ hJ2 hsz
theorem LC_tested {d : Nat} {x m out outD sc len : Nat} {scr : Nat → Int32} {h : xG} {S : xMS} {i : Nat} (hJ : xJ x m out outD sc len scr h S) (hi : i + 6 ≤ len) (hl : len ≤ 144) {Q : Option Value ⊕ Nat → xG → Prop} (k : ∀ h' S', xJ x m out outD sc len scr h' S' → xsz h' + xsl h' ≤ xsz h + xsl h + 46100 → XW M_L_law (d + 92) 3272 [(0, .ref sc), (1, .ref x), (2, .ref m), (3, .ref out), (4, .ref outD), (5, .int (nI i))] [] h' Q) : XW M_L_law (d + 92) 2219 [(0, .ref sc), (1, .ref x), (2, .ref m), (3, .ref out), (4, .ref outD), (5, .int (nI i))] [] h Q := by
  obtain ⟨p_, lk_, fa_, ka_, la_, Z_, n_, rr_, ww_, dq_, da_, hh_, ps_, sv_, hp_⟩ := hJ.1.1.p
  have hx : xtag h x = 1 := hp_.M.tx
  have c1 := hJ.2.2.2.2.1
  have c3 := hJ.2.2.2.2.2.2.1
  have c4 := hJ.2.2.2.2.2.2.2
  have oo := hJ.2.2.1
  have oD := hJ.2.2.2.1
  have hj := J_tested hJ.1.1 hJ.1.2
  rcases hj with ⟨a, S', hW, hR⟩ | ⟨t, c, b, S', hL, -, -⟩
  rotate_left
  · simp at hL
  refine xw_aload_n (pc := 2219) dL_law_2219 1 rfl ?_
  refine xw_callF (pc := 2220) (xr_V (as := []) ok_X1_tested rfl (by decide) q861 q862 q863 (by rw [hx]; rfl) (by rw [hx]; rfl) dL_law_2220 rfl rfl (Nat.le_of_ble_eq_true rfl)) (hW (d + 1)) ?_
  intro g1 hc1 hm1
  obtain ⟨st1, F1⟩ := hc1
  obtain ⟨hK1, ⟨hM1, h31, he1⟩, ho1, hoD1, hs1⟩ := hJ.mid st1 F1 (by unfold oC; omega) (by unfold oC; omega)
  have tw1 : xtag (xWith g1 m S) sc = 101 := (he1.ti.1 sc).trans hs1.1
  have lw1 : xlen (xWith g1 m S) sc = len := (he1.ti.2.1 sc).trans hs1.2.2.1
  have iw1 : ∀ j, j < len → xi (xWith g1 m S) sc j = scr j := fun j hj => (he1.ti.2.2 sc j).trans (hs1.2.2.2 j hj)
  refine XW.eqv he1.symm ?_
  refine xw_aload_n (pc := 2223) dL_law_2223 2 rfl ?_
  refine xw_callF (pc := 2224) (xr_V (as := []) ok_X6_tested rfl (by decide) q2618 q2619 q2620 (by rw [xtag_with]; first | (rw [hM1.1]; rfl) | (rw [hM3.1]; rfl)) (by rw [xtag_with]; first | (rw [hM1.1]; rfl) | (rw [hM3.1]; rfl)) dL_law_2224 rfl rfl (Nat.le_of_ble_eq_true rfl)) (jR.val (hR (d + 1) g1 m hM1 h31 hK1)) ?_
  intro g2 hc2 hm2
  obtain ⟨g3, T, e3, ag, c6, hM3, h33, F3⟩ := hc2
  subst e3
  obtain ⟨hJ2, F4⟩ := xJ.done st1 hK1 ho1 hoD1 hs1 ag hM3 h33 F3
  have hsz : xsz (xWith g3 m T) + xsl (xWith g3 m T) ≤ xsz h + xsl h + 46100 := by
    have := F1.2.2.2.1
    have := F4.2.2.2.1
    omega
  have t2o := hJ2.2.2.1.1
  have t2D := hJ2.2.2.2.1.1
  refine xw_icmp_eq (pc := 2227) 3272 dL_law_2227 rfl (fun hb2227 => ?_) (fun hb2227 => ?_)
  rotate_left
  · exfalso
    exact hb2227 rfl
  exact k _ _ hJ2 hsz
theorem LC_without {d : Nat} {x m out outD sc len : Nat} {scr : Nat → Int32} {h : xG} {S : xMS} {i : Nat} (hJ : xJ x m out outD sc len scr h S) (hi : i + 6 ≤ len) (hl : len ≤ 144) {Q : Option Value ⊕ Nat → xG → Prop} (k : ∀ h' S', xJ x m out outD sc len scr h' S' → xsz h' + xsl h' ≤ xsz h + xsl h + 46100 → XW M_L_law (d + 92) 3272 [(0, .ref sc), (1, .ref x), (2, .ref m), (3, .ref out), (4, .ref outD), (5, .int (nI i))] [] h' Q) : XW M_L_law (d + 92) 2232 [(0, .ref sc), (1, .ref x), (2, .ref m), (3, .ref out), (4, .ref outD), (5, .int (nI i))] [] h Q := by
  obtain ⟨p_, lk_, fa_, ka_, la_, Z_, n_, rr_, ww_, dq_, da_, hh_, ps_, sv_, hp_⟩ := hJ.1.1.p
  have hx : xtag h x = 1 := hp_.M.tx
  have c1 := hJ.2.2.2.2.1
  have c3 := hJ.2.2.2.2.2.2.1
  have c4 := hJ.2.2.2.2.2.2.2
  have oo := hJ.2.2.1
  have oD := hJ.2.2.2.1
  obtain ⟨c, b, S', hc, hP, hR, hW⟩ := W_without (out := out) hJ.1.1 hJ.1.2 hx oo (p0 := scr (i + 1))
  refine xw_aload_n (pc := 2232) dL_law_2232 1 rfl ?_
  refine xw_aload_n (pc := 2233) dL_law_2233 0 rfl ?_
  refine xw_iload (pc := 2234) dL_law_2234 5 rfl ?_
  refine xw_iconst (v := nI 1) (pc := 2236) dL_law_2236 rfl ?_
  refine xn_iadd (pc := 2237) dL_law_2237 ?_
  refine xw_iald (k := (i + 1)) (pc := 2238) dL_law_2238 (by simp [-List.getD_eq_getElem?_getD, xE_setI, xsz_setI, xsl_setI, xtag_setI, xown_setI, xlen_setI, xE_setR, xsz_setR, xsl_setR, xtag_setR, xown_setR, xlen_setR, xE_setW, xsz_setW, xsl_setW, xtag_setW, xown_setW, xlen_setW, xi_setR, xi_setW, xr_setI, xr_setW, xww_setI, xww_setR, xi_setI, xr_setR, xww_setW, xE_new, xsz_new, xsl_new, hx, c1]) rfl (by rw [c3]; omega) ?_
  rw [c4 (i + 1) (by omega)]
  refine xw_aload_n (pc := 2239) dL_law_2239 3 rfl ?_
  refine xw_callF (pc := 2240) (xr_SX (as := [_, _, _]) ok_X0_without rfl (by decide) q1681 q1682 dL_law_2240 rfl rfl (Nat.le_of_ble_eq_true rfl)) (hW d) ?_
  intro g1 hc1 hm1
  obtain ⟨st1, F1, w1⟩ := hc1
  refine xw_istore (l' := [(6, _), (0, _), (1, _), (2, _), (3, _), (4, _), (5, _)]) (pc := 2243) dL_law_2243 (by decide) rfl ?_
  obtain ⟨hK1, ⟨hM1, h31, he1⟩, ho1, hoD1, hs1⟩ := hJ.mid st1 F1 (by unfold oW; omega) (by unfold oW; omega)
  have tw1 : xtag (xWith g1 m S) sc = 101 := (he1.ti.1 sc).trans hs1.1
  have lw1 : xlen (xWith g1 m S) sc = len := (he1.ti.2.1 sc).trans hs1.2.2.1
  have iw1 : ∀ j, j < len → xi (xWith g1 m S) sc j = scr j := fun j hj => (he1.ti.2.2 sc j).trans (hs1.2.2.2 j hj)
  refine XW.eqv he1.symm ?_
  refine xw_aload_n (pc := 2245) dL_law_2245 3 rfl ?_
  refine xw_aload_n (pc := 2246) dL_law_2246 1 rfl ?_
  refine xw_iload (pc := 2247) dL_law_2247 6 rfl ?_
  refine xw_iconst (v := nI 1) (pc := 2249) dL_law_2249 rfl ?_
  refine xn_iadd (pc := 2250) dL_law_2250 ?_
  refine xw_iald (k := (i + 1)) (pc := 2251) dL_law_2251 (by simp [-List.getD_eq_getElem?_getD, xE_setI, xsz_setI, xsl_setI, xtag_setI, xown_setI, xlen_setI, xE_setR, xsz_setR, xsl_setR, xtag_setR, xown_setR, xlen_setR, xE_setW, xsz_setW, xsl_setW, xtag_setW, xown_setW, xlen_setW, xi_setR, xi_setW, xr_setI, xr_setW, xww_setI, xww_setR, xi_setI, xr_setR, xww_setW, xE_new, xsz_new, xsl_new, hx, c1, tw1]) rfl (by rw [lw1]; omega) ?_
  rw [iw1 (i + 1) (by omega)]
  refine xw_callF (pc := 2252) (xr_V (as := [_]) ok_X6_without rfl (by decide) q2622 q2623 q2624 (by rw [xtag_with]; first | (rw [hM1.1]; rfl) | (rw [hM3.1]; rfl)) (by rw [xtag_with]; first | (rw [hM1.1]; rfl) | (rw [hM3.1]; rfl)) dL_law_2252 rfl rfl (Nat.le_of_ble_eq_true rfl)) (jR.val (hR (d + 1) g1 m hM1 h31 hK1)) ?_
  intro g2 hc2 hm2
  obtain ⟨g3, T, e3, ag, c6, hM3, h33, F3⟩ := hc2
  subst e3
  obtain ⟨hJ2, F4⟩ := xJ.done st1 hK1 ho1 hoD1 hs1 ag hM3 h33 F3
  have hsz : xsz (xWith g3 m T) + xsl (xWith g3 m T) ≤ xsz h + xsl h + 46100 := by
    have := F1.2.2.2.1
    have := F4.2.2.2.1
    omega
  have t2o := hJ2.2.2.1.1
  have t2D := hJ2.2.2.2.1.1
  refine xw_istore (l' := [(7, _), (6, _), (0, _), (1, _), (2, _), (3, _), (4, _), (5, _)]) (pc := 2255) dL_law_2255 (by decide) rfl ?_
  refine xw_aload_n (pc := 2257) dL_law_2257 4 rfl ?_
  refine xw_callV (pc := 2258) (xr_V (as := []) ok_X6_thrown rfl (by decide) q2352 q2353 q2354 (by rw [xtag_with]; first | (rw [hM1.1]; rfl) | (rw [hM3.1]; rfl)) (by rw [xtag_with]; first | (rw [hM1.1]; rfl) | (rw [hM3.1]; rfl)) dL_law_2258 rfl rfl (Nat.le_of_ble_eq_true rfl)) (by have z := SP_X6_thrown (d := d + 91) (S := T) hM3; rw [c6] at z; exact z) ?_
  refine xw_iload (pc := 2261) dL_law_2261 1 rfl ?_
  refine xw_icmp_eq (pc := 2263) 2268 dL_law_2263 rfl (fun hb2263 => ?_) (fun hb2263 => ?_)
  rotate_left
  · exfalso
    replace hb2263 : ¬ (c = c) := mt (nI_eq (a := c) (b := c) (by omega) (by omega)).mpr hb2263
    omega
  replace hb2263 : c = c := (nI_eq (a := c) (b := c) (by omega) (by omega)).mp hb2263
  refine xw_iload (pc := 2268) dL_law_2268 1 rfl ?_
  refine xw_if_ne (pc := 2270) 2285 dL_law_2270 rfl (fun hb2270 => ?_) (fun hb2270 => ?_)
  · replace hb2270 : ¬ (c = 0) := mt (nI_eq (a := c) (b := 0) (by omega) (by omega)).mpr hb2270
    refine xw_goto (pc := 2285) 3272 dL_law_2285 rfl ?_
    refine xw_pick (pc := 3272) (l' := [(0, _), (1, _), (2, _), (3, _), (4, _), (5, _)]) [2, 3, 4, 5, 6, 7] rfl ?_
    exact k _ _ hJ2 hsz
  · replace hb2270 : c = 0 := (nI_eq (a := c) (b := 0) (by omega) (by omega)).mp hb2270
    refine xw_aload_n (pc := 2273) dL_law_2273 5 rfl ?_
    refine xw_iconst (v := nI 0) (pc := 2274) dL_law_2274 rfl ?_
    have wE : xw (xWith g3 m T) out 0 = _ := (F4.w' (xlt (by rw [ho1.1]; decide)) (by rw [ho1.2.1]; unfold o313; omega)).trans (w1 hb2270)
    refine xw_lald (k := 0) (pc := 2275) dL_law_2275 (by simp [-List.getD_eq_getElem?_getD, xE_setI, xsz_setI, xsl_setI, xtag_setI, xown_setI, xlen_setI, xE_setR, xsz_setR, xsl_setR, xtag_setR, xown_setR, xlen_setR, xE_setW, xsz_setW, xsl_setW, xtag_setW, xown_setW, xlen_setW, xi_setR, xi_setW, xr_setI, xr_setW, xww_setI, xww_setR, xi_setI, xr_setR, xww_setW, xE_new, xsz_new, xsl_new, hx, c1, tw1, t2o, t2D]) rfl (by rw [hJ2.2.2.1.2.2]; decide) ?_
    rw [wE]
    refine xw_iload (pc := 2276) dL_law_2276 0 rfl ?_
    refine xw_i2l (pc := 2278) dL_law_2278 ?_
    refine xw_lcmp (pc := 2279) dL_law_2279 rfl ?_
    refine xw_if_eq (pc := 2280) 2285 dL_law_2280 rfl (fun hb2280 => ?_) (fun hb2280 => ?_)
    rotate_left
    · exfalso
      exact hb2280 lg_s
    refine xw_goto (pc := 2285) 3272 dL_law_2285 rfl ?_
    refine xw_pick (pc := 3272) (l' := [(0, _), (1, _), (2, _), (3, _), (4, _), (5, _)]) [2, 3, 4, 5, 6, 7] rfl ?_
    exact k _ _ hJ2 hsz
theorem LC_sheet {d : Nat} {x m out outD sc len : Nat} {scr : Nat → Int32} {h : xG} {S : xMS} {i : Nat} (hJ : xJ x m out outD sc len scr h S) (hi : i + 6 ≤ len) (hl : len ≤ 144) {Q : Option Value ⊕ Nat → xG → Prop} (k : ∀ h' S', xJ x m out outD sc len scr h' S' → xsz h' + xsl h' ≤ xsz h + xsl h + 46100 → XW M_L_law (d + 92) 3272 [(0, .ref sc), (1, .ref x), (2, .ref m), (3, .ref out), (4, .ref outD), (5, .int (nI i))] [] h' Q) : XW M_L_law (d + 92) 2288 [(0, .ref sc), (1, .ref x), (2, .ref m), (3, .ref out), (4, .ref outD), (5, .int (nI i))] [] h Q := by
  obtain ⟨p_, lk_, fa_, ka_, la_, Z_, n_, rr_, ww_, dq_, da_, hh_, ps_, sv_, hp_⟩ := hJ.1.1.p
  have hx : xtag h x = 1 := hp_.M.tx
  have c1 := hJ.2.2.2.2.1
  have c3 := hJ.2.2.2.2.2.2.1
  have c4 := hJ.2.2.2.2.2.2.2
  have oo := hJ.2.2.1
  have oD := hJ.2.2.2.1
  obtain ⟨c, b, S', hc, hP, hR, hW⟩ := W_sheet (out := out) hJ.1.1 hJ.1.2 hx oo (p0 := scr (i + 1))
  refine xw_aload_n (pc := 2288) dL_law_2288 1 rfl ?_
  refine xw_aload_n (pc := 2289) dL_law_2289 0 rfl ?_
  refine xw_iload (pc := 2290) dL_law_2290 5 rfl ?_
  refine xw_iconst (v := nI 1) (pc := 2292) dL_law_2292 rfl ?_
  refine xn_iadd (pc := 2293) dL_law_2293 ?_
  refine xw_iald (k := (i + 1)) (pc := 2294) dL_law_2294 (by simp [-List.getD_eq_getElem?_getD, xE_setI, xsz_setI, xsl_setI, xtag_setI, xown_setI, xlen_setI, xE_setR, xsz_setR, xsl_setR, xtag_setR, xown_setR, xlen_setR, xE_setW, xsz_setW, xsl_setW, xtag_setW, xown_setW, xlen_setW, xi_setR, xi_setW, xr_setI, xr_setW, xww_setI, xww_setR, xi_setI, xr_setR, xww_setW, xE_new, xsz_new, xsl_new, hx, c1]) rfl (by rw [c3]; omega) ?_
  rw [c4 (i + 1) (by omega)]
  refine xw_aload_n (pc := 2295) dL_law_2295 3 rfl ?_
  refine xw_callF (pc := 2296) (xr_SX (as := [_, _, _]) ok_X0_sheet rfl (by decide) q1696 q1697 dL_law_2296 rfl rfl (Nat.le_of_ble_eq_true rfl)) (hW d) ?_
  intro g1 hc1 hm1
  obtain ⟨st1, F1, w1⟩ := hc1
  refine xw_istore (l' := [(6, _), (0, _), (1, _), (2, _), (3, _), (4, _), (5, _)]) (pc := 2299) dL_law_2299 (by decide) rfl ?_
  obtain ⟨hK1, ⟨hM1, h31, he1⟩, ho1, hoD1, hs1⟩ := hJ.mid st1 F1 (by unfold oW; omega) (by unfold oW; omega)
  have tw1 : xtag (xWith g1 m S) sc = 101 := (he1.ti.1 sc).trans hs1.1
  have lw1 : xlen (xWith g1 m S) sc = len := (he1.ti.2.1 sc).trans hs1.2.2.1
  have iw1 : ∀ j, j < len → xi (xWith g1 m S) sc j = scr j := fun j hj => (he1.ti.2.2 sc j).trans (hs1.2.2.2 j hj)
  refine XW.eqv he1.symm ?_
  refine xw_aload_n (pc := 2301) dL_law_2301 3 rfl ?_
  refine xw_aload_n (pc := 2302) dL_law_2302 1 rfl ?_
  refine xw_iload (pc := 2303) dL_law_2303 6 rfl ?_
  refine xw_iconst (v := nI 1) (pc := 2305) dL_law_2305 rfl ?_
  refine xn_iadd (pc := 2306) dL_law_2306 ?_
  refine xw_iald (k := (i + 1)) (pc := 2307) dL_law_2307 (by simp [-List.getD_eq_getElem?_getD, xE_setI, xsz_setI, xsl_setI, xtag_setI, xown_setI, xlen_setI, xE_setR, xsz_setR, xsl_setR, xtag_setR, xown_setR, xlen_setR, xE_setW, xsz_setW, xsl_setW, xtag_setW, xown_setW, xlen_setW, xi_setR, xi_setW, xr_setI, xr_setW, xww_setI, xww_setR, xi_setI, xr_setR, xww_setW, xE_new, xsz_new, xsl_new, hx, c1, tw1]) rfl (by rw [lw1]; omega) ?_
  rw [iw1 (i + 1) (by omega)]
  refine xw_callF (pc := 2308) (xr_V (as := [_]) ok_X6_sheet rfl (by decide) q2629 q2630 q2631 (by rw [xtag_with]; first | (rw [hM1.1]; rfl) | (rw [hM3.1]; rfl)) (by rw [xtag_with]; first | (rw [hM1.1]; rfl) | (rw [hM3.1]; rfl)) dL_law_2308 rfl rfl (Nat.le_of_ble_eq_true rfl)) (jR.val (hR (d + 1) g1 m hM1 h31 hK1)) ?_
  intro g2 hc2 hm2
  obtain ⟨g3, T, e3, ag, c6, hM3, h33, F3⟩ := hc2
  subst e3
  obtain ⟨hJ2, F4⟩ := xJ.done st1 hK1 ho1 hoD1 hs1 ag hM3 h33 F3
  have hsz : xsz (xWith g3 m T) + xsl (xWith g3 m T) ≤ xsz h + xsl h + 46100 := by
    have := F1.2.2.2.1
    have := F4.2.2.2.1
    omega
  have t2o := hJ2.2.2.1.1
  have t2D := hJ2.2.2.2.1.1
  refine xw_istore (l' := [(7, _), (6, _), (0, _), (1, _), (2, _), (3, _), (4, _), (5, _)]) (pc := 2311) dL_law_2311 (by decide) rfl ?_
  refine xw_aload_n (pc := 2313) dL_law_2313 4 rfl ?_
  refine xw_callV (pc := 2314) (xr_V (as := []) ok_X6_thrown rfl (by decide) q2352 q2353 q2354 (by rw [xtag_with]; first | (rw [hM1.1]; rfl) | (rw [hM3.1]; rfl)) (by rw [xtag_with]; first | (rw [hM1.1]; rfl) | (rw [hM3.1]; rfl)) dL_law_2314 rfl rfl (Nat.le_of_ble_eq_true rfl)) (by have z := SP_X6_thrown (d := d + 91) (S := T) hM3; rw [c6] at z; exact z) ?_
  refine xw_iload (pc := 2317) dL_law_2317 1 rfl ?_
  refine xw_icmp_eq (pc := 2319) 2324 dL_law_2319 rfl (fun hb2319 => ?_) (fun hb2319 => ?_)
  rotate_left
  · exfalso
    replace hb2319 : ¬ (c = c) := mt (nI_eq (a := c) (b := c) (by omega) (by omega)).mpr hb2319
    omega
  replace hb2319 : c = c := (nI_eq (a := c) (b := c) (by omega) (by omega)).mp hb2319
  refine xw_iload (pc := 2324) dL_law_2324 1 rfl ?_
  refine xw_if_ne (pc := 2326) 2341 dL_law_2326 rfl (fun hb2326 => ?_) (fun hb2326 => ?_)
  · replace hb2326 : ¬ (c = 0) := mt (nI_eq (a := c) (b := 0) (by omega) (by omega)).mpr hb2326
    refine xw_goto (pc := 2341) 3272 dL_law_2341 rfl ?_
    refine xw_pick (pc := 3272) (l' := [(0, _), (1, _), (2, _), (3, _), (4, _), (5, _)]) [2, 3, 4, 5, 6, 7] rfl ?_
    exact k _ _ hJ2 hsz
  · replace hb2326 : c = 0 := (nI_eq (a := c) (b := 0) (by omega) (by omega)).mp hb2326
    refine xw_aload_n (pc := 2329) dL_law_2329 5 rfl ?_
    refine xw_iconst (v := nI 0) (pc := 2330) dL_law_2330 rfl ?_
    have wE : xw (xWith g3 m T) out 0 = _ := (F4.w' (xlt (by rw [ho1.1]; decide)) (by rw [ho1.2.1]; unfold o313; omega)).trans (w1 hb2326)
    refine xw_lald (k := 0) (pc := 2331) dL_law_2331 (by simp [-List.getD_eq_getElem?_getD, xE_setI, xsz_setI, xsl_setI, xtag_setI, xown_setI, xlen_setI, xE_setR, xsz_setR, xsl_setR, xtag_setR, xown_setR, xlen_setR, xE_setW, xsz_setW, xsl_setW, xtag_setW, xown_setW, xlen_setW, xi_setR, xi_setW, xr_setI, xr_setW, xww_setI, xww_setR, xi_setI, xr_setR, xww_setW, xE_new, xsz_new, xsl_new, hx, c1, tw1, t2o, t2D]) rfl (by rw [hJ2.2.2.1.2.2]; decide) ?_
    rw [wE]
    refine xw_iload (pc := 2332) dL_law_2332 0 rfl ?_
    refine xw_i2l (pc := 2334) dL_law_2334 ?_
    refine xw_lcmp (pc := 2335) dL_law_2335 rfl ?_
    refine xw_if_eq (pc := 2336) 2341 dL_law_2336 rfl (fun hb2336 => ?_) (fun hb2336 => ?_)
    rotate_left
    · exfalso
      exact hb2336 lg_s
    refine xw_goto (pc := 2341) 3272 dL_law_2341 rfl ?_
    refine xw_pick (pc := 3272) (l' := [(0, _), (1, _), (2, _), (3, _), (4, _), (5, _)]) [2, 3, 4, 5, 6, 7] rfl ?_
    exact k _ _ hJ2 hsz
theorem LC_lay {d : Nat} {x m out outD sc len : Nat} {scr : Nat → Int32} {h : xG} {S : xMS} {i : Nat} (hJ : xJ x m out outD sc len scr h S) (hi : i + 6 ≤ len) (hl : len ≤ 144) {Q : Option Value ⊕ Nat → xG → Prop} (k : ∀ h' S', xJ x m out outD sc len scr h' S' → xsz h' + xsl h' ≤ xsz h + xsl h + 46100 → XW M_L_law (d + 92) 3272 [(0, .ref sc), (1, .ref x), (2, .ref m), (3, .ref out), (4, .ref outD), (5, .int (nI i))] [] h' Q) : XW M_L_law (d + 92) 2344 [(0, .ref sc), (1, .ref x), (2, .ref m), (3, .ref out), (4, .ref outD), (5, .int (nI i))] [] h Q := by
  obtain ⟨p_, lk_, fa_, ka_, la_, Z_, n_, rr_, ww_, dq_, da_, hh_, ps_, sv_, hp_⟩ := hJ.1.1.p
  have hx : xtag h x = 1 := hp_.M.tx
  have c1 := hJ.2.2.2.2.1
  have c3 := hJ.2.2.2.2.2.2.1
  have c4 := hJ.2.2.2.2.2.2.2
  have oo := hJ.2.2.1
  have oD := hJ.2.2.2.1
  obtain ⟨c, b, S', hc, hP, hR, hW⟩ := W_lay (out := out) hJ.1.1 hJ.1.2 hx oo (p0 := scr (i + 1)) (p1 := scr (i + 2)) (p2 := scr (i + 3))
  refine xw_aload_n (pc := 2344) dL_law_2344 1 rfl ?_
  refine xw_aload_n (pc := 2345) dL_law_2345 0 rfl ?_
  refine xw_iload (pc := 2346) dL_law_2346 5 rfl ?_
  refine xw_iconst (v := nI 1) (pc := 2348) dL_law_2348 rfl ?_
  refine xn_iadd (pc := 2349) dL_law_2349 ?_
  refine xw_iald (k := (i + 1)) (pc := 2350) dL_law_2350 (by simp [-List.getD_eq_getElem?_getD, xE_setI, xsz_setI, xsl_setI, xtag_setI, xown_setI, xlen_setI, xE_setR, xsz_setR, xsl_setR, xtag_setR, xown_setR, xlen_setR, xE_setW, xsz_setW, xsl_setW, xtag_setW, xown_setW, xlen_setW, xi_setR, xi_setW, xr_setI, xr_setW, xww_setI, xww_setR, xi_setI, xr_setR, xww_setW, xE_new, xsz_new, xsl_new, hx, c1]) rfl (by rw [c3]; omega) ?_
  rw [c4 (i + 1) (by omega)]
  refine xw_aload_n (pc := 2351) dL_law_2351 0 rfl ?_
  refine xw_iload (pc := 2352) dL_law_2352 5 rfl ?_
  refine xw_iconst (v := nI 2) (pc := 2354) dL_law_2354 rfl ?_
  refine xn_iadd (pc := 2355) dL_law_2355 ?_
  refine xw_iald (k := (i + 2)) (pc := 2356) dL_law_2356 (by simp [-List.getD_eq_getElem?_getD, xE_setI, xsz_setI, xsl_setI, xtag_setI, xown_setI, xlen_setI, xE_setR, xsz_setR, xsl_setR, xtag_setR, xown_setR, xlen_setR, xE_setW, xsz_setW, xsl_setW, xtag_setW, xown_setW, xlen_setW, xi_setR, xi_setW, xr_setI, xr_setW, xww_setI, xww_setR, xi_setI, xr_setR, xww_setW, xE_new, xsz_new, xsl_new, hx, c1]) rfl (by rw [c3]; omega) ?_
  rw [c4 (i + 2) (by omega)]
  refine xw_aload_n (pc := 2357) dL_law_2357 0 rfl ?_
  refine xw_iload (pc := 2358) dL_law_2358 5 rfl ?_
  refine xw_iconst (v := nI 3) (pc := 2360) dL_law_2360 rfl ?_
  refine xn_iadd (pc := 2361) dL_law_2361 ?_
  refine xw_iald (k := (i + 3)) (pc := 2362) dL_law_2362 (by simp [-List.getD_eq_getElem?_getD, xE_setI, xsz_setI, xsl_setI, xtag_setI, xown_setI, xlen_setI, xE_setR, xsz_setR, xsl_setR, xtag_setR, xown_setR, xlen_setR, xE_setW, xsz_setW, xsl_setW, xtag_setW, xown_setW, xlen_setW, xi_setR, xi_setW, xr_setI, xr_setW, xww_setI, xww_setR, xi_setI, xr_setR, xww_setW, xE_new, xsz_new, xsl_new, hx, c1]) rfl (by rw [c3]; omega) ?_
  rw [c4 (i + 3) (by omega)]
  refine xw_aload_n (pc := 2363) dL_law_2363 3 rfl ?_
  refine xw_callF (pc := 2364) (xr_SX (as := [_, _, _, _, _]) ok_X0_lay rfl (by decide) q1714 q1715 dL_law_2364 rfl rfl (Nat.le_of_ble_eq_true rfl)) (hW d) ?_
  intro g1 hc1 hm1
  obtain ⟨st1, F1, w1⟩ := hc1
  refine xw_istore (l' := [(6, _), (0, _), (1, _), (2, _), (3, _), (4, _), (5, _)]) (pc := 2367) dL_law_2367 (by decide) rfl ?_
  obtain ⟨hK1, ⟨hM1, h31, he1⟩, ho1, hoD1, hs1⟩ := hJ.mid st1 F1 (by unfold oW; omega) (by unfold oW; omega)
  have tw1 : xtag (xWith g1 m S) sc = 101 := (he1.ti.1 sc).trans hs1.1
  have lw1 : xlen (xWith g1 m S) sc = len := (he1.ti.2.1 sc).trans hs1.2.2.1
  have iw1 : ∀ j, j < len → xi (xWith g1 m S) sc j = scr j := fun j hj => (he1.ti.2.2 sc j).trans (hs1.2.2.2 j hj)
  refine XW.eqv he1.symm ?_
  refine xw_aload_n (pc := 2369) dL_law_2369 3 rfl ?_
  refine xw_aload_n (pc := 2370) dL_law_2370 1 rfl ?_
  refine xw_iload (pc := 2371) dL_law_2371 6 rfl ?_
  refine xw_iconst (v := nI 1) (pc := 2373) dL_law_2373 rfl ?_
  refine xn_iadd (pc := 2374) dL_law_2374 ?_
  refine xw_iald (k := (i + 1)) (pc := 2375) dL_law_2375 (by simp [-List.getD_eq_getElem?_getD, xE_setI, xsz_setI, xsl_setI, xtag_setI, xown_setI, xlen_setI, xE_setR, xsz_setR, xsl_setR, xtag_setR, xown_setR, xlen_setR, xE_setW, xsz_setW, xsl_setW, xtag_setW, xown_setW, xlen_setW, xi_setR, xi_setW, xr_setI, xr_setW, xww_setI, xww_setR, xi_setI, xr_setR, xww_setW, xE_new, xsz_new, xsl_new, hx, c1, tw1]) rfl (by rw [lw1]; omega) ?_
  rw [iw1 (i + 1) (by omega)]
  refine xw_aload_n (pc := 2376) dL_law_2376 1 rfl ?_
  refine xw_iload (pc := 2377) dL_law_2377 6 rfl ?_
  refine xw_iconst (v := nI 2) (pc := 2379) dL_law_2379 rfl ?_
  refine xn_iadd (pc := 2380) dL_law_2380 ?_
  refine xw_iald (k := (i + 2)) (pc := 2381) dL_law_2381 (by simp [-List.getD_eq_getElem?_getD, xE_setI, xsz_setI, xsl_setI, xtag_setI, xown_setI, xlen_setI, xE_setR, xsz_setR, xsl_setR, xtag_setR, xown_setR, xlen_setR, xE_setW, xsz_setW, xsl_setW, xtag_setW, xown_setW, xlen_setW, xi_setR, xi_setW, xr_setI, xr_setW, xww_setI, xww_setR, xi_setI, xr_setR, xww_setW, xE_new, xsz_new, xsl_new, hx, c1, tw1]) rfl (by rw [lw1]; omega) ?_
  rw [iw1 (i + 2) (by omega)]
  refine xw_aload_n (pc := 2382) dL_law_2382 1 rfl ?_
  refine xw_iload (pc := 2383) dL_law_2383 6 rfl ?_
  refine xw_iconst (v := nI 3) (pc := 2385) dL_law_2385 rfl ?_
  refine xn_iadd (pc := 2386) dL_law_2386 ?_
  refine xw_iald (k := (i + 3)) (pc := 2387) dL_law_2387 (by simp [-List.getD_eq_getElem?_getD, xE_setI, xsz_setI, xsl_setI, xtag_setI, xown_setI, xlen_setI, xE_setR, xsz_setR, xsl_setR, xtag_setR, xown_setR, xlen_setR, xE_setW, xsz_setW, xsl_setW, xtag_setW, xown_setW, xlen_setW, xi_setR, xi_setW, xr_setI, xr_setW, xww_setI, xww_setR, xi_setI, xr_setR, xww_setW, xE_new, xsz_new, xsl_new, hx, c1, tw1]) rfl (by rw [lw1]; omega) ?_
  rw [iw1 (i + 3) (by omega)]
  refine xw_callF (pc := 2388) (xr_V (as := [_, _, _]) ok_X6_lay rfl (by decide) q2637 q2638 q2639 (by rw [xtag_with]; first | (rw [hM1.1]; rfl) | (rw [hM3.1]; rfl)) (by rw [xtag_with]; first | (rw [hM1.1]; rfl) | (rw [hM3.1]; rfl)) dL_law_2388 rfl rfl (Nat.le_of_ble_eq_true rfl)) (jR.val (hR (d + 1) g1 m hM1 h31 hK1)) ?_
  intro g2 hc2 hm2
  obtain ⟨g3, T, e3, ag, c6, hM3, h33, F3⟩ := hc2
  subst e3
  obtain ⟨hJ2, F4⟩ := xJ.done st1 hK1 ho1 hoD1 hs1 ag hM3 h33 F3
  have hsz : xsz (xWith g3 m T) + xsl (xWith g3 m T) ≤ xsz h + xsl h + 46100 := by
    have := F1.2.2.2.1
    have := F4.2.2.2.1
    omega
  have t2o := hJ2.2.2.1.1
  have t2D := hJ2.2.2.2.1.1
  refine xw_istore (l' := [(7, _), (6, _), (0, _), (1, _), (2, _), (3, _), (4, _), (5, _)]) (pc := 2391) dL_law_2391 (by decide) rfl ?_
  refine xw_aload_n (pc := 2393) dL_law_2393 4 rfl ?_
  refine xw_callV (pc := 2394) (xr_V (as := []) ok_X6_thrown rfl (by decide) q2352 q2353 q2354 (by rw [xtag_with]; first | (rw [hM1.1]; rfl) | (rw [hM3.1]; rfl)) (by rw [xtag_with]; first | (rw [hM1.1]; rfl) | (rw [hM3.1]; rfl)) dL_law_2394 rfl rfl (Nat.le_of_ble_eq_true rfl)) (by have z := SP_X6_thrown (d := d + 91) (S := T) hM3; rw [c6] at z; exact z) ?_
  refine xw_iload (pc := 2397) dL_law_2397 1 rfl ?_
  refine xw_icmp_eq (pc := 2399) 2404 dL_law_2399 rfl (fun hb2399 => ?_) (fun hb2399 => ?_)
  rotate_left
  · exfalso
    replace hb2399 : ¬ (c = c) := mt (nI_eq (a := c) (b := c) (by omega) (by omega)).mpr hb2399
    omega
  replace hb2399 : c = c := (nI_eq (a := c) (b := c) (by omega) (by omega)).mp hb2399
  refine xw_iload (pc := 2404) dL_law_2404 1 rfl ?_
  refine xw_if_ne (pc := 2406) 2421 dL_law_2406 rfl (fun hb2406 => ?_) (fun hb2406 => ?_)
  · replace hb2406 : ¬ (c = 0) := mt (nI_eq (a := c) (b := 0) (by omega) (by omega)).mpr hb2406
    refine xw_goto (pc := 2421) 3272 dL_law_2421 rfl ?_
    refine xw_pick (pc := 3272) (l' := [(0, _), (1, _), (2, _), (3, _), (4, _), (5, _)]) [2, 3, 4, 5, 6, 7] rfl ?_
    exact k _ _ hJ2 hsz
  · replace hb2406 : c = 0 := (nI_eq (a := c) (b := 0) (by omega) (by omega)).mp hb2406
    refine xw_aload_n (pc := 2409) dL_law_2409 5 rfl ?_
    refine xw_iconst (v := nI 0) (pc := 2410) dL_law_2410 rfl ?_
    have wE : xw (xWith g3 m T) out 0 = _ := (F4.w' (xlt (by rw [ho1.1]; decide)) (by rw [ho1.2.1]; unfold o313; omega)).trans (w1 hb2406)
    refine xw_lald (k := 0) (pc := 2411) dL_law_2411 (by simp [-List.getD_eq_getElem?_getD, xE_setI, xsz_setI, xsl_setI, xtag_setI, xown_setI, xlen_setI, xE_setR, xsz_setR, xsl_setR, xtag_setR, xown_setR, xlen_setR, xE_setW, xsz_setW, xsl_setW, xtag_setW, xown_setW, xlen_setW, xi_setR, xi_setW, xr_setI, xr_setW, xww_setI, xww_setR, xi_setI, xr_setR, xww_setW, xE_new, xsz_new, xsl_new, hx, c1, tw1, t2o, t2D]) rfl (by rw [hJ2.2.2.1.2.2]; decide) ?_
    rw [wE]
    refine xw_iload (pc := 2412) dL_law_2412 0 rfl ?_
    refine xw_i2l (pc := 2414) dL_law_2414 ?_
    refine xw_lcmp (pc := 2415) dL_law_2415 rfl ?_
    refine xw_if_eq (pc := 2416) 2421 dL_law_2416 rfl (fun hb2416 => ?_) (fun hb2416 => ?_)
    rotate_left
    · exfalso
      exact hb2416 lg_s
    refine xw_goto (pc := 2421) 3272 dL_law_2421 rfl ?_
    refine xw_pick (pc := 3272) (l' := [(0, _), (1, _), (2, _), (3, _), (4, _), (5, _)]) [2, 3, 4, 5, 6, 7] rfl ?_
    exact k _ _ hJ2 hsz
theorem LC_takeSheet {d : Nat} {x m out outD sc len : Nat} {scr : Nat → Int32} {h : xG} {S : xMS} {i : Nat} (hJ : xJ x m out outD sc len scr h S) (hi : i + 6 ≤ len) (hl : len ≤ 144) {Q : Option Value ⊕ Nat → xG → Prop} (k : ∀ h' S', xJ x m out outD sc len scr h' S' → xsz h' + xsl h' ≤ xsz h + xsl h + 46100 → XW M_L_law (d + 92) 3272 [(0, .ref sc), (1, .ref x), (2, .ref m), (3, .ref out), (4, .ref outD), (5, .int (nI i))] [] h' Q) : XW M_L_law (d + 92) 2424 [(0, .ref sc), (1, .ref x), (2, .ref m), (3, .ref out), (4, .ref outD), (5, .int (nI i))] [] h Q := by
  obtain ⟨p_, lk_, fa_, ka_, la_, Z_, n_, rr_, ww_, dq_, da_, hh_, ps_, sv_, hp_⟩ := hJ.1.1.p
  have hx : xtag h x = 1 := hp_.M.tx
  have c1 := hJ.2.2.2.2.1
  have c3 := hJ.2.2.2.2.2.2.1
  have c4 := hJ.2.2.2.2.2.2.2
  have oo := hJ.2.2.1
  have oD := hJ.2.2.2.1
  obtain ⟨c, b, S', hc, hP, hR, hW⟩ := W_takeSheet (out := out) hJ.1.1 hJ.1.2 hx oo (p0 := scr (i + 1))
  refine xw_aload_n (pc := 2424) dL_law_2424 1 rfl ?_
  refine xw_aload_n (pc := 2425) dL_law_2425 0 rfl ?_
  refine xw_iload (pc := 2426) dL_law_2426 5 rfl ?_
  refine xw_iconst (v := nI 1) (pc := 2428) dL_law_2428 rfl ?_
  refine xn_iadd (pc := 2429) dL_law_2429 ?_
  refine xw_iald (k := (i + 1)) (pc := 2430) dL_law_2430 (by simp [-List.getD_eq_getElem?_getD, xE_setI, xsz_setI, xsl_setI, xtag_setI, xown_setI, xlen_setI, xE_setR, xsz_setR, xsl_setR, xtag_setR, xown_setR, xlen_setR, xE_setW, xsz_setW, xsl_setW, xtag_setW, xown_setW, xlen_setW, xi_setR, xi_setW, xr_setI, xr_setW, xww_setI, xww_setR, xi_setI, xr_setR, xww_setW, xE_new, xsz_new, xsl_new, hx, c1]) rfl (by rw [c3]; omega) ?_
  rw [c4 (i + 1) (by omega)]
  refine xw_aload_n (pc := 2431) dL_law_2431 3 rfl ?_
  refine xw_callF (pc := 2432) (xr_SX (as := [_, _, _]) ok_X0_takeSheet rfl (by decide) q1739 q1740 dL_law_2432 rfl rfl (Nat.le_of_ble_eq_true rfl)) (hW d) ?_
  intro g1 hc1 hm1
  obtain ⟨st1, F1, w1⟩ := hc1
  refine xw_istore (l' := [(6, _), (0, _), (1, _), (2, _), (3, _), (4, _), (5, _)]) (pc := 2435) dL_law_2435 (by decide) rfl ?_
  obtain ⟨hK1, ⟨hM1, h31, he1⟩, ho1, hoD1, hs1⟩ := hJ.mid st1 F1 (by unfold oW; omega) (by unfold oW; omega)
  have tw1 : xtag (xWith g1 m S) sc = 101 := (he1.ti.1 sc).trans hs1.1
  have lw1 : xlen (xWith g1 m S) sc = len := (he1.ti.2.1 sc).trans hs1.2.2.1
  have iw1 : ∀ j, j < len → xi (xWith g1 m S) sc j = scr j := fun j hj => (he1.ti.2.2 sc j).trans (hs1.2.2.2 j hj)
  refine XW.eqv he1.symm ?_
  refine xw_aload_n (pc := 2437) dL_law_2437 3 rfl ?_
  refine xw_aload_n (pc := 2438) dL_law_2438 1 rfl ?_
  refine xw_iload (pc := 2439) dL_law_2439 6 rfl ?_
  refine xw_iconst (v := nI 1) (pc := 2441) dL_law_2441 rfl ?_
  refine xn_iadd (pc := 2442) dL_law_2442 ?_
  refine xw_iald (k := (i + 1)) (pc := 2443) dL_law_2443 (by simp [-List.getD_eq_getElem?_getD, xE_setI, xsz_setI, xsl_setI, xtag_setI, xown_setI, xlen_setI, xE_setR, xsz_setR, xsl_setR, xtag_setR, xown_setR, xlen_setR, xE_setW, xsz_setW, xsl_setW, xtag_setW, xown_setW, xlen_setW, xi_setR, xi_setW, xr_setI, xr_setW, xww_setI, xww_setR, xi_setI, xr_setR, xww_setW, xE_new, xsz_new, xsl_new, hx, c1, tw1]) rfl (by rw [lw1]; omega) ?_
  rw [iw1 (i + 1) (by omega)]
  refine xw_callF (pc := 2444) (xr_V (as := [_]) ok_X6_takeSheet rfl (by decide) q2641 q2642 q2643 (by rw [xtag_with]; first | (rw [hM1.1]; rfl) | (rw [hM3.1]; rfl)) (by rw [xtag_with]; first | (rw [hM1.1]; rfl) | (rw [hM3.1]; rfl)) dL_law_2444 rfl rfl (Nat.le_of_ble_eq_true rfl)) (jR.val (hR (d + 1) g1 m hM1 h31 hK1)) ?_
  intro g2 hc2 hm2
  obtain ⟨g3, T, e3, ag, c6, hM3, h33, F3⟩ := hc2
  subst e3
  obtain ⟨hJ2, F4⟩ := xJ.done st1 hK1 ho1 hoD1 hs1 ag hM3 h33 F3
  have hsz : xsz (xWith g3 m T) + xsl (xWith g3 m T) ≤ xsz h + xsl h + 46100 := by
    have := F1.2.2.2.1
    have := F4.2.2.2.1
    omega
  have t2o := hJ2.2.2.1.1
  have t2D := hJ2.2.2.2.1.1
  refine xw_istore (l' := [(7, _), (6, _), (0, _), (1, _), (2, _), (3, _), (4, _), (5, _)]) (pc := 2447) dL_law_2447 (by decide) rfl ?_
  refine xw_aload_n (pc := 2449) dL_law_2449 4 rfl ?_
  refine xw_callV (pc := 2450) (xr_V (as := []) ok_X6_thrown rfl (by decide) q2352 q2353 q2354 (by rw [xtag_with]; first | (rw [hM1.1]; rfl) | (rw [hM3.1]; rfl)) (by rw [xtag_with]; first | (rw [hM1.1]; rfl) | (rw [hM3.1]; rfl)) dL_law_2450 rfl rfl (Nat.le_of_ble_eq_true rfl)) (by have z := SP_X6_thrown (d := d + 91) (S := T) hM3; rw [c6] at z; exact z) ?_
  refine xw_iload (pc := 2453) dL_law_2453 1 rfl ?_
  refine xw_icmp_eq (pc := 2455) 2460 dL_law_2455 rfl (fun hb2455 => ?_) (fun hb2455 => ?_)
  rotate_left
  · exfalso
    replace hb2455 : ¬ (c = c) := mt (nI_eq (a := c) (b := c) (by omega) (by omega)).mpr hb2455
    omega
  replace hb2455 : c = c := (nI_eq (a := c) (b := c) (by omega) (by omega)).mp hb2455
  refine xw_iload (pc := 2460) dL_law_2460 1 rfl ?_
  refine xw_if_ne (pc := 2462) 2477 dL_law_2462 rfl (fun hb2462 => ?_) (fun hb2462 => ?_)
  · replace hb2462 : ¬ (c = 0) := mt (nI_eq (a := c) (b := 0) (by omega) (by omega)).mpr hb2462
    refine xw_goto (pc := 2477) 3272 dL_law_2477 rfl ?_
    refine xw_pick (pc := 3272) (l' := [(0, _), (1, _), (2, _), (3, _), (4, _), (5, _)]) [2, 3, 4, 5, 6, 7] rfl ?_
    exact k _ _ hJ2 hsz
  · replace hb2462 : c = 0 := (nI_eq (a := c) (b := 0) (by omega) (by omega)).mp hb2462
    refine xw_aload_n (pc := 2465) dL_law_2465 5 rfl ?_
    refine xw_iconst (v := nI 0) (pc := 2466) dL_law_2466 rfl ?_
    have wE : xw (xWith g3 m T) out 0 = _ := (F4.w' (xlt (by rw [ho1.1]; decide)) (by rw [ho1.2.1]; unfold o313; omega)).trans (w1 hb2462)
    refine xw_lald (k := 0) (pc := 2467) dL_law_2467 (by simp [-List.getD_eq_getElem?_getD, xE_setI, xsz_setI, xsl_setI, xtag_setI, xown_setI, xlen_setI, xE_setR, xsz_setR, xsl_setR, xtag_setR, xown_setR, xlen_setR, xE_setW, xsz_setW, xsl_setW, xtag_setW, xown_setW, xlen_setW, xi_setR, xi_setW, xr_setI, xr_setW, xww_setI, xww_setR, xi_setI, xr_setR, xww_setW, xE_new, xsz_new, xsl_new, hx, c1, tw1, t2o, t2D]) rfl (by rw [hJ2.2.2.1.2.2]; decide) ?_
    rw [wE]
    refine xw_iload (pc := 2468) dL_law_2468 0 rfl ?_
    refine xw_i2l (pc := 2470) dL_law_2470 ?_
    refine xw_lcmp (pc := 2471) dL_law_2471 rfl ?_
    refine xw_if_eq (pc := 2472) 2477 dL_law_2472 rfl (fun hb2472 => ?_) (fun hb2472 => ?_)
    rotate_left
    · exfalso
      exact hb2472 lg_s
    refine xw_goto (pc := 2477) 3272 dL_law_2477 rfl ?_
    refine xw_pick (pc := 3272) (l' := [(0, _), (1, _), (2, _), (3, _), (4, _), (5, _)]) [2, 3, 4, 5, 6, 7] rfl ?_
    exact k _ _ hJ2 hsz
