/-! CLASS 69: rows kept and copied -/
set_option maxRecDepth 100000
theorem SP_X1_keepRow_F {d : Nat} {g : xG} {x : Nat} {v : Int32} (hv : inR v (nI 0) (nI 2) = false) : XM M_X1_keepRow (d + 81) [.ref x, .int v] g (xThr (xsz g) (xExc g 23)) := by
  refine xm_of (by decide +kernel) (Nat.le_of_ble_eq_true rfl) ?_
  show XW _ _ 0 [(0, _), (1, _)] [] _ _
  refine xw_iload_n (pc := 0) dX1_keepRow_0 1 rfl ?_
  refine xw_callV (pc := 1) (xr_S (as := [_]) ok_X1_isRow rfl (by decide) q1753 q1754 dX1_keepRow_1 rfl rfl (Nat.le_of_ble_eq_true rfl)) ((show XM M_X1_isRow (d + 80) [.int v] _ (xOne (some (.int (bI false))) _) from by have h9 := SP_X1_isRow (d := d + 79) (g := g) (v := v); rw [hv] at h9; exact h9)) ?_
  refine xw_callX (pc := 4) (xr_S (as := [_]) ok_X1_checkIndex rfl (by decide) q1252 q1066 dX1_keepRow_4 rfl rfl (Nat.le_of_ble_eq_true rfl)) (SP_X1_checkIndex_F) ?_
  exact xx_out0 rfl (by rw [xExc_tag]; decide) (by rw [xExc_tag]; decide) (by rw [xExc_own]; decide) ⟨rfl, rfl⟩

theorem lp_X1_keepRow {d : Nat} {g : xG} {x p lk fa ka la n rr ww : Nat} {Z : xAd} {S : xMS} (hM : xMn g x p lk fa ka la Z S n rr ww) {rw0 : Nat} {s10 s11 : Nat → Int32} (hR : xRwQ g rw0 s10 s11) (h7 : xr g x 7 = some rw0) {row : Nat} (hrow : row < 3) : ∀ (j k N : Nat) (gk : xG), ww - k < j → k ≤ ww → xtag gk (xsz g) = 105 → xown gk (xsz g) = 10 → xlen gk (xsz g) = ww → (∀ j, j < k → xi gk (xsz g) j = (brW (S 1) (-1) rr j).toInt32) → xFr (oEq 6) N g gk → N ≤ 20 → xLb gk x lk fa ka la → XW M_X1_keepRow (d + 81) 22 [(3, .int (nI k)), (2, .ref (xsz g)), (0, .ref x), (1, .int (nI row))] [] gk (xVal (.int (nI ww)) (fun g' => xLb g' x lk fa ka la ∧ xRwC (oEq 6) g rw0 row ww (fun j => (brW (S 1) (-1) rr j).toInt32) 40 g')) := by
  intro j
  induction j with
  | zero => intro k N gk h; omega
  | succ j ih =>
  intro k N gk hj hk a1 a2 a3 a4 F hN hB
  obtain ⟨w1, w2, w3, -⟩ := hR
  have hMk : xMn gk x p lk fa ka la Z S n rr ww := hM.fr6 F hB
  have hlw := hMk.P.lw
  have w12 := hMk.P.wf.w12
  have hxl : x < xsz g := xlt (by rw [hM.tx]; decide)
  have hwl : rw0 < xsz g := xlt (by rw [w1]; decide)
  have nx : ¬ oEq 6 (xown g x) := by rw [hM.ox]; unfold oEq; omega
  have h7k : xr gk x 7 = some rw0 := (F.r' hxl nx).trans h7
  have w1k : xtag gk rw0 = 114 := (F.tag hwl).trans w1
  have w2k : xown gk rw0 = 16 := (F.own hwl).trans w2
  have w2n : xown gk rw0 ≠ 0 := by rw [w2k]; decide
  have w3k : xlen gk rw0 = 3 := (F.len hwl).trans w3
  have pf2 := hMk.P.f2
  have ptg := hMk.P.tag
  have hAl : xsz g < xsz gk := xlt (by rw [a1]; decide)
  refine xw_iload_n (pc := 22) dX1_keepRow_22 0 rfl ?_
  refine xw_aload_n (pc := 23) dX1_keepRow_23 1 rfl ?_
  refine xw_alen (q := 4) (pc := 24) dX1_keepRow_24 (by simp [-List.getD_eq_getElem?_getD, xE_setI, xsz_setI, xsl_setI, xtag_setI, xown_setI, xlen_setI, xE_setR, xsz_setR, xsl_setR, xtag_setR, xown_setR, xlen_setR, xE_setW, xsz_setW, xsl_setW, xtag_setW, xown_setW, xlen_setW, xi_setR, xi_setW, xr_setI, xr_setW, xww_setI, xww_setR, xi_setI, xr_setR, xww_setW, xE_new, xsz_new, xsl_new, hMk.tx, hMk.xp, hMk.l3, h7k, w1k, w3k, w2n, pf2, ptg, a1, a3]) (by first | decide | omega) ?_
  rw [show xlen _ (xsz g) = ww from by simp [-List.getD_eq_getElem?_getD, xE_setI, xsz_setI, xsl_setI, xtag_setI, xown_setI, xlen_setI, xE_setR, xsz_setR, xsl_setR, xtag_setR, xown_setR, xlen_setR, xE_setW, xsz_setW, xsl_setW, xtag_setW, xown_setW, xlen_setW, xi_setR, xi_setW, xr_setI, xr_setW, xww_setI, xww_setR, xi_setI, xr_setR, xww_setW, xE_new, xsz_new, xsl_new, hMk.tx, hMk.xp, hMk.l3, h7k, w1k, w3k, w2n, pf2, ptg, a1, a3]]
  refine xw_icmp_ge (pc := 25) 62 dX1_keepRow_25 rfl (fun hb25 => ?_) (fun hb25 => ?_)
  · replace hb25 : ww ≤ k := (nI_leI (a := ww) (b := k) (by omega) (by omega)).mp hb25
    refine xw_aload_n (pc := 62) dX1_keepRow_62 2 rfl ?_
    refine xw_getS (b := rw0) (pc := 63) fd_X1_40 dX1_keepRow_63 (by first | assumption | (simp [-List.getD_eq_getElem?_getD, xE_setI, xsz_setI, xsl_setI, xtag_setI, xown_setI, xlen_setI, xE_setR, xsz_setR, xsl_setR, xtag_setR, xown_setR, xlen_setR, xE_setW, xsz_setW, xsl_setW, xtag_setW, xown_setW, xlen_setW, xi_setR, xi_setW, xr_setI, xr_setW, xww_setI, xww_setR, xi_setI, xr_setR, xww_setW, xE_new, xsz_new, xsl_new, hMk.tx, hMk.xp, hMk.l3, h7k, w1k, w3k, w2n, pf2, ptg, a1, a3, xsub]; done) | (simp [-List.getD_eq_getElem?_getD, xE_setI, xsz_setI, xsl_setI, xtag_setI, xown_setI, xlen_setI, xE_setR, xsz_setR, xsl_setR, xtag_setR, xown_setR, xlen_setR, xE_setW, xsz_setW, xsl_setW, xtag_setW, xown_setW, xlen_setW, xi_setR, xi_setW, xr_setI, xr_setW, xww_setI, xww_setR, xi_setI, xr_setR, xww_setW, xE_new, xsz_new, xsl_new, hMk.tx, hMk.xp, hMk.l3, h7k, w1k, w3k, w2n, pf2, ptg, a1, a3] <;> rfl)) (by simp [-List.getD_eq_getElem?_getD, xE_setI, xsz_setI, xsl_setI, xtag_setI, xown_setI, xlen_setI, xE_setR, xsz_setR, xsl_setR, xtag_setR, xown_setR, xlen_setR, xE_setW, xsz_setW, xsl_setW, xtag_setW, xown_setW, xlen_setW, xi_setR, xi_setW, xr_setI, xr_setW, xww_setI, xww_setR, xi_setI, xr_setR, xww_setW, xE_new, xsz_new, xsl_new, hMk.tx, hMk.xp, hMk.l3, h7k, w1k, w3k, w2n, pf2, ptg, a1, a3]) ?_
    refine xw_iload_n (pc := 66) dX1_keepRow_66 3 rfl ?_
    refine xw_aload_n (pc := 67) dX1_keepRow_67 1 rfl ?_
    refine xw_aastF (k := row) (pc := 68) dX1_keepRow_68 (by simp [-List.getD_eq_getElem?_getD, xE_setI, xsz_setI, xsl_setI, xtag_setI, xown_setI, xlen_setI, xE_setR, xsz_setR, xsl_setR, xtag_setR, xown_setR, xlen_setR, xE_setW, xsz_setW, xsl_setW, xtag_setW, xown_setW, xlen_setW, xi_setR, xi_setW, xr_setI, xr_setW, xww_setI, xww_setR, xi_setI, xr_setR, xww_setW, xE_new, xsz_new, xsl_new, hMk.tx, hMk.xp, hMk.l3, h7k, w1k, w3k, w2n, pf2, ptg, a1, a3]) (by first | assumption | (simp [-List.getD_eq_getElem?_getD, xE_setI, xsz_setI, xsl_setI, xtag_setI, xown_setI, xlen_setI, xE_setR, xsz_setR, xsl_setR, xtag_setR, xown_setR, xlen_setR, xE_setW, xsz_setW, xsl_setW, xtag_setW, xown_setW, xlen_setW, xi_setR, xi_setW, xr_setI, xr_setW, xww_setI, xww_setR, xi_setI, xr_setR, xww_setW, xE_new, xsz_new, xsl_new, hMk.tx, hMk.xp, hMk.l3, h7k, w1k, w3k, w2n, pf2, ptg, a1, a3]; done) | (simp [-List.getD_eq_getElem?_getD, xE_setI, xsz_setI, xsl_setI, xtag_setI, xown_setI, xlen_setI, xE_setR, xsz_setR, xsl_setR, xtag_setR, xown_setR, xlen_setR, xE_setW, xsz_setW, xsl_setW, xtag_setW, xown_setW, xlen_setW, xi_setR, xi_setW, xr_setI, xr_setW, xww_setI, xww_setR, xi_setI, xr_setR, xww_setW, xE_new, xsz_new, xsl_new, hMk.tx, hMk.xp, hMk.l3, h7k, w1k, w3k, w2n, pf2, ptg, a1, a3]; assumption)) rfl (by rw [w3k]; omega) (by exact a1) ?_
    refine xw_aload_n (pc := 69) dX1_keepRow_69 1 rfl ?_
    refine xw_alen (q := 4) (pc := 70) dX1_keepRow_70 (by simp [-List.getD_eq_getElem?_getD, xE_setI, xsz_setI, xsl_setI, xtag_setI, xown_setI, xlen_setI, xE_setR, xsz_setR, xsl_setR, xtag_setR, xown_setR, xlen_setR, xE_setW, xsz_setW, xsl_setW, xtag_setW, xown_setW, xlen_setW, xi_setR, xi_setW, xr_setI, xr_setW, xww_setI, xww_setR, xi_setI, xr_setR, xww_setW, xE_new, xsz_new, xsl_new, hMk.tx, hMk.xp, hMk.l3, h7k, w1k, w3k, w2n, pf2, ptg, a1, a3]) (by first | decide | omega) ?_
    rw [show xlen _ (xsz g) = ww from by simp [-List.getD_eq_getElem?_getD, xE_setI, xsz_setI, xsl_setI, xtag_setI, xown_setI, xlen_setI, xE_setR, xsz_setR, xsl_setR, xtag_setR, xown_setR, xlen_setR, xE_setW, xsz_setW, xsl_setW, xtag_setW, xown_setW, xlen_setW, xi_setR, xi_setW, xr_setI, xr_setW, xww_setI, xww_setR, xi_setI, xr_setR, xww_setW, xE_new, xsz_new, xsl_new, hMk.tx, hMk.xp, hMk.l3, h7k, w1k, w3k, w2n, pf2, ptg, a1, a3]]
    refine xw_iret (pc := 71) .int dX1_keepRow_71 rfl ?_ 
    have hlk : lk < xsz gk := xlt (by rw [hB.1.1]; decide)
    have hne : lk ≠ rw0 := fun e => by have h9 := hB.1.1; rw [e, w1k] at h9; exact absurd h9 (by decide)
    have ek : k = ww := by omega
    subst ek
    exact ⟨rfl, hB.fr (xFr.rf.sr (Or.inr w2k) : xFr (oEq 16) 0 gk (xsetR gk rw0 row (some (xsz g)))) (fun j _ => xr_of (xc_setR hne) j), (xRwC.of w1 w2 (by unfold oEq; omega) (Nat.le_refl _) a1 a2 a3 a4 (F.sub (fun _ h => h) (show N ≤ 40 by omega)))⟩
  · replace hb25 : ¬ (ww ≤ k) := mt (nI_leI (a := ww) (b := k) (by omega) (by omega)).mpr hb25
    have hkw : k < ww := by omega
    refine xw_aload_n (pc := 28) dX1_keepRow_28 1 rfl ?_
    refine xw_iload_n (pc := 29) dX1_keepRow_29 0 rfl ?_
    refine xw_aload_n (pc := 30) dX1_keepRow_30 2 rfl ?_
    refine xw_getS (b := lk) (pc := 31) fd_X1_28 dX1_keepRow_31 (by first | assumption | (simp [-List.getD_eq_getElem?_getD, xE_setI, xsz_setI, xsl_setI, xtag_setI, xown_setI, xlen_setI, xE_setR, xsz_setR, xsl_setR, xtag_setR, xown_setR, xlen_setR, xE_setW, xsz_setW, xsl_setW, xtag_setW, xown_setW, xlen_setW, xi_setR, xi_setW, xr_setI, xr_setW, xww_setI, xww_setR, xi_setI, xr_setR, xww_setW, xE_new, xsz_new, xsl_new, hMk.tx, hMk.xp, hMk.l3, h7k, w1k, w3k, w2n, pf2, ptg, a1, a3, xsub]; done) | (simp [-List.getD_eq_getElem?_getD, xE_setI, xsz_setI, xsl_setI, xtag_setI, xown_setI, xlen_setI, xE_setR, xsz_setR, xsl_setR, xtag_setR, xown_setR, xlen_setR, xE_setW, xsz_setW, xsl_setW, xtag_setW, xown_setW, xlen_setW, xi_setR, xi_setW, xr_setI, xr_setW, xww_setI, xww_setR, xi_setI, xr_setR, xww_setW, xE_new, xsz_new, xsl_new, hMk.tx, hMk.xp, hMk.l3, h7k, w1k, w3k, w2n, pf2, ptg, a1, a3] <;> rfl)) (by simp [-List.getD_eq_getElem?_getD, xE_setI, xsz_setI, xsl_setI, xtag_setI, xown_setI, xlen_setI, xE_setR, xsz_setR, xsl_setR, xtag_setR, xown_setR, xlen_setR, xE_setW, xsz_setW, xsl_setW, xtag_setW, xown_setW, xlen_setW, xi_setR, xi_setW, xr_setI, xr_setW, xww_setI, xww_setR, xi_setI, xr_setR, xww_setW, xE_new, xsz_new, xsl_new, hMk.tx, hMk.xp, hMk.l3, h7k, w1k, w3k, w2n, pf2, ptg, a1, a3]) ?_
    refine xw_aload_n (pc := 34) dX1_keepRow_34 2 rfl ?_
    refine xw_getS (b := p) (pc := 35) fd_X1_10 dX1_keepRow_35 (by first | assumption | (simp [-List.getD_eq_getElem?_getD, xE_setI, xsz_setI, xsl_setI, xtag_setI, xown_setI, xlen_setI, xE_setR, xsz_setR, xsl_setR, xtag_setR, xown_setR, xlen_setR, xE_setW, xsz_setW, xsl_setW, xtag_setW, xown_setW, xlen_setW, xi_setR, xi_setW, xr_setI, xr_setW, xww_setI, xww_setR, xi_setI, xr_setR, xww_setW, xE_new, xsz_new, xsl_new, hMk.tx, hMk.xp, hMk.l3, h7k, w1k, w3k, w2n, pf2, ptg, a1, a3, xsub]; done) | (simp [-List.getD_eq_getElem?_getD, xE_setI, xsz_setI, xsl_setI, xtag_setI, xown_setI, xlen_setI, xE_setR, xsz_setR, xsl_setR, xtag_setR, xown_setR, xlen_setR, xE_setW, xsz_setW, xsl_setW, xtag_setW, xown_setW, xlen_setW, xi_setR, xi_setW, xr_setI, xr_setW, xww_setI, xww_setR, xi_setI, xr_setR, xww_setW, xE_new, xsz_new, xsl_new, hMk.tx, hMk.xp, hMk.l3, h7k, w1k, w3k, w2n, pf2, ptg, a1, a3] <;> rfl)) (by simp [-List.getD_eq_getElem?_getD, xE_setI, xsz_setI, xsl_setI, xtag_setI, xown_setI, xlen_setI, xE_setR, xsz_setR, xsl_setR, xtag_setR, xown_setR, xlen_setR, xE_setW, xsz_setW, xsl_setW, xtag_setW, xown_setW, xlen_setW, xi_setR, xi_setW, xr_setI, xr_setW, xww_setI, xww_setR, xi_setI, xr_setR, xww_setW, xE_new, xsz_new, xsl_new, hMk.tx, hMk.xp, hMk.l3, h7k, w1k, w3k, w2n, pf2, ptg, a1, a3]) ?_
    refine xw_getS (b := (aL Z 4)) (pc := 38) fd_X1_374 dX1_keepRow_38 (by first | assumption | (simp [-List.getD_eq_getElem?_getD, xE_setI, xsz_setI, xsl_setI, xtag_setI, xown_setI, xlen_setI, xE_setR, xsz_setR, xsl_setR, xtag_setR, xown_setR, xlen_setR, xE_setW, xsz_setW, xsl_setW, xtag_setW, xown_setW, xlen_setW, xi_setR, xi_setW, xr_setI, xr_setW, xww_setI, xww_setR, xi_setI, xr_setR, xww_setW, xE_new, xsz_new, xsl_new, hMk.tx, hMk.xp, hMk.l3, h7k, w1k, w3k, w2n, pf2, ptg, a1, a3, xsub]; done) | (simp [-List.getD_eq_getElem?_getD, xE_setI, xsz_setI, xsl_setI, xtag_setI, xown_setI, xlen_setI, xE_setR, xsz_setR, xsl_setR, xtag_setR, xown_setR, xlen_setR, xE_setW, xsz_setW, xsl_setW, xtag_setW, xown_setW, xlen_setW, xi_setR, xi_setW, xr_setI, xr_setW, xww_setI, xww_setR, xi_setI, xr_setR, xww_setW, xE_new, xsz_new, xsl_new, hMk.tx, hMk.xp, hMk.l3, h7k, w1k, w3k, w2n, pf2, ptg, a1, a3] <;> rfl)) (by simp [-List.getD_eq_getElem?_getD, xE_setI, xsz_setI, xsl_setI, xtag_setI, xown_setI, xlen_setI, xE_setR, xsz_setR, xsl_setR, xtag_setR, xown_setR, xlen_setR, xE_setW, xsz_setW, xsl_setW, xtag_setW, xown_setW, xlen_setW, xi_setR, xi_setW, xr_setI, xr_setW, xww_setI, xww_setR, xi_setI, xr_setR, xww_setW, xE_new, xsz_new, xsl_new, hMk.tx, hMk.xp, hMk.l3, h7k, w1k, w3k, w2n, pf2, ptg, a1, a3]) ?_
    refine xw_iload_n (pc := 41) dX1_keepRow_41 0 rfl ?_
    refine xw_callV (pc := 42) (xr_V (as := [_]) ok_J2_get rfl (by decide) q705 q706 q707 (by rw [hMk.P.l2.1]; rfl) (by rw [hMk.P.l2.1]; rfl) dX1_keepRow_42 rfl rfl (Nat.le_of_ble_eq_true rfl)) (SP_J2_get hMk.P.l2 k (by omega)) ?_
    refine xw_chkS (pc := 45) dX1_keepRow_45 (by rw [(hMk.P.wk hkw).1]; exact q719) (by rw [(hMk.P.wk hkw).1]; rfl) ?_
    refine xw_iconst (v := -1) (pc := 48) dX1_keepRow_48 (by decide +kernel) ?_
    refine xw_callF (pc := 49) (xr_V (as := [_, _]) ok_X5_at rfl (by decide) q732 q733 q734 (by first | (rw [hc49.1.lt]; rfl) | (rw [hB.1.1]; rfl)) (by first | (rw [hc49.1.lt]; rfl) | (rw [hB.1.1]; rfl)) dX1_keepRow_49 rfl rfl (Nat.le_of_ble_eq_true rfl)) (SP_X5_at (d := d + 76) (wo := -1) hMk.tx hMk.ox hMk.xp hMk.P hkw hMk.B) ?_
    intro g49 hc49 hm49
    refine xw_callF (pc := 52) (xr_V (as := []) ok_X5_burden rfl (by decide) q1610 q1611 q1612 (by first | (rw [hc49.1.lt]; rfl) | (rw [hB.1.1]; rfl)) (by first | (rw [hc49.1.lt]; rfl) | (rw [hB.1.1]; rfl)) dX1_keepRow_52 rfl rfl (Nat.le_of_ble_eq_true rfl)) (SP_X5_burden (d := d + 34) hc49.1) ?_
    intro g52 hc52 hm52
    have FK : xFr (oEq 6) 0 gk g52 := (hc49.2.tr (hc52.2.fr hc49.1.kao6)).sub (fun _ h => h) (by omega)
    have tA52 : xtag g52 (xsz g) = 105 := (FK.tag hAl).trans a1
    have oA52 : xown g52 (xsz g) = 10 := (FK.own hAl).trans a2
    have oA52n : xown g52 (xsz g) ≠ 0 := by rw [oA52]; decide
    have lA52 : xlen g52 (xsz g) = ww := (FK.len hAl).trans a3
    have nA6 : ¬ oEq 6 (xown gk (xsz g)) := by rw [a2]; unfold oEq; omega
    refine xw_fast (k := k) (pc := 55) dX1_keepRow_55 (by simp [-List.getD_eq_getElem?_getD, xE_setI, xsz_setI, xsl_setI, xtag_setI, xown_setI, xlen_setI, xE_setR, xsz_setR, xsl_setR, xtag_setR, xown_setR, xlen_setR, xE_setW, xsz_setW, xsl_setW, xtag_setW, xown_setW, xlen_setW, xi_setR, xi_setW, xr_setI, xr_setW, xww_setI, xww_setR, xi_setI, xr_setR, xww_setW, xE_new, xsz_new, xsl_new, hMk.tx, hMk.xp, hMk.l3, h7k, w1k, w3k, w2n, pf2, ptg, a1, a3, tA52, oA52n, lA52]) (by first | assumption | (simp [-List.getD_eq_getElem?_getD, xE_setI, xsz_setI, xsl_setI, xtag_setI, xown_setI, xlen_setI, xE_setR, xsz_setR, xsl_setR, xtag_setR, xown_setR, xlen_setR, xE_setW, xsz_setW, xsl_setW, xtag_setW, xown_setW, xlen_setW, xi_setR, xi_setW, xr_setI, xr_setW, xww_setI, xww_setR, xi_setI, xr_setR, xww_setW, xE_new, xsz_new, xsl_new, hMk.tx, hMk.xp, hMk.l3, h7k, w1k, w3k, w2n, pf2, ptg, a1, a3, tA52, oA52n, lA52]; done) | (simp [-List.getD_eq_getElem?_getD, xE_setI, xsz_setI, xsl_setI, xtag_setI, xown_setI, xlen_setI, xE_setR, xsz_setR, xsl_setR, xtag_setR, xown_setR, xlen_setR, xE_setW, xsz_setW, xsl_setW, xtag_setW, xown_setW, xlen_setW, xi_setR, xi_setW, xr_setI, xr_setW, xww_setI, xww_setR, xi_setI, xr_setR, xww_setW, xE_new, xsz_new, xsl_new, hMk.tx, hMk.xp, hMk.l3, h7k, w1k, w3k, w2n, pf2, ptg, a1, a3, tA52, oA52n, lA52]; assumption)) rfl (by rw [lA52]; exact hkw) ?_
    refine xw_iinc (v := nI (k + 1)) (l' := [(3, _), (2, _), (0, _), (1, _)]) (pc := 56) dX1_keepRow_56 0 rfl (nI_add _ 1) (by decide) rfl ?_
    refine xw_goto (pc := 59) 22 dX1_keepRow_59 rfl ?_
    have FF : xFr (oEq 6) N g (xsetI g52 (xsz g) k (brW (S 1) (-1) rr k).toInt32) := ((F.tr FK).si (Or.inl (Nat.le_refl _))).sub (fun _ h => h) (by omega)
    refine ih (k + 1) N (xsetI g52 (xsz g) k (brW (S 1) (-1) rr k).toInt32) (by omega) (by omega) (xtag_setI.trans tA52) (xown_setI.trans oA52) (xlen_setI.trans lA52) (fun j hj => ?_) FF hN (hc52.1.lc.B.fr (xFr.rf.si (Or.inr oA52) : xFr (oEq 10) 0 g52 (xsetI g52 (xsz g) k (brW (S 1) (-1) rr k).toInt32)) (fun j _ => xr_setI))
    by_cases e : j = k
    · subst e
      exact xi_setIS (by rw [tA52]; decide)
    · exact (xi_setIK e).trans ((FK.i' hAl nA6).trans (a4 j (by omega)))
theorem SP_X1_keepRow {d : Nat} {g : xG} {x p lk fa ka la n rr ww : Nat} {Z : xAd} {S : xMS} (hM : xMn g x p lk fa ka la Z S n rr ww) {rw0 : Nat} {s10 s11 : Nat → Int32} (hR : xRwQ g rw0 s10 s11) (h7 : xr g x 7 = some rw0) {row : Nat} (hrow : row < 3) : XM M_X1_keepRow (d + 81) [.ref x, .int (nI row)] g (xVal (.int (nI ww)) (fun g' => xLb g' x lk fa ka la ∧ xRwC (oEq 6) g rw0 row ww (fun j => (brW (S 1) (-1) rr j).toInt32) 40 g')) := by
  have hI : inR (nI row) (nI 0) (nI 2) = true := inR_nat' (by decide) (by omega)
  have hlw := hM.P.lw
  have w12 := hM.P.wf.w12
  have pf2 := hM.P.f2
  have ptg := hM.P.tag
  have FN : xFr (oEq 6) (0 + (ww + 1)) g (xNew g (xBlank 105 10 ww) ww) := (xFr.rf (n := 0)).nw
  have hll : lk < xsz g := xlt (by rw [hM.B.lt]; decide)
  refine xm_of (by decide +kernel) (Nat.le_of_ble_eq_true rfl) ?_
  show XW _ _ 0 [(0, _), (1, _)] [] _ _
  refine xw_iload_n (pc := 0) dX1_keepRow_0 1 rfl ?_
  refine xw_callV (pc := 1) (xr_S (as := [_]) ok_X1_isRow rfl (by decide) q1753 q1754 dX1_keepRow_1 rfl rfl (Nat.le_of_ble_eq_true rfl)) ((show XM M_X1_isRow (d + 80) [.int (nI row)] _ (xOne (some (.int (bI true))) _) from by have h9 := SP_X1_isRow (d := d + 79) (g := g) (v := (nI row)); rw [hI] at h9; exact h9)) ?_
  refine xw_callU (pc := 4) (xr_S (as := [_]) ok_X1_checkIndex rfl (by decide) q1252 q1066 dX1_keepRow_4 rfl rfl (Nat.le_of_ble_eq_true rfl)) (SP_X1_checkIndex_T) ?_
  refine xw_aload_n (pc := 7) dX1_keepRow_7 0 rfl ?_
  refine xw_getS (b := p) (pc := 8) fd_X1_10 dX1_keepRow_8 (by first | assumption | (simp [-List.getD_eq_getElem?_getD, xE_setI, xsz_setI, xsl_setI, xtag_setI, xown_setI, xlen_setI, xE_setR, xsz_setR, xsl_setR, xtag_setR, xown_setR, xlen_setR, xE_setW, xsz_setW, xsl_setW, xtag_setW, xown_setW, xlen_setW, xi_setR, xi_setW, xr_setI, xr_setW, xww_setI, xww_setR, xi_setI, xr_setR, xww_setW, xE_new, xsz_new, xsl_new, hM.tx, hM.xp, hM.l3, pf2, ptg, xsub]; done) | (simp [-List.getD_eq_getElem?_getD, xE_setI, xsz_setI, xsl_setI, xtag_setI, xown_setI, xlen_setI, xE_setR, xsz_setR, xsl_setR, xtag_setR, xown_setR, xlen_setR, xE_setW, xsz_setW, xsl_setW, xtag_setW, xown_setW, xlen_setW, xi_setR, xi_setW, xr_setI, xr_setW, xww_setI, xww_setR, xi_setI, xr_setR, xww_setW, xE_new, xsz_new, xsl_new, hM.tx, hM.xp, hM.l3, pf2, ptg] <;> rfl)) (by simp [-List.getD_eq_getElem?_getD, xE_setI, xsz_setI, xsl_setI, xtag_setI, xown_setI, xlen_setI, xE_setR, xsz_setR, xsl_setR, xtag_setR, xown_setR, xlen_setR, xE_setW, xsz_setW, xsl_setW, xtag_setW, xown_setW, xlen_setW, xi_setR, xi_setW, xr_setI, xr_setW, xww_setI, xww_setR, xi_setI, xr_setR, xww_setW, xE_new, xsz_new, xsl_new, hM.tx, hM.xp, hM.l3, pf2, ptg]) ?_
  refine xw_getS (b := (aL Z 4)) (pc := 11) fd_X1_374 dX1_keepRow_11 (by first | assumption | (simp [-List.getD_eq_getElem?_getD, xE_setI, xsz_setI, xsl_setI, xtag_setI, xown_setI, xlen_setI, xE_setR, xsz_setR, xsl_setR, xtag_setR, xown_setR, xlen_setR, xE_setW, xsz_setW, xsl_setW, xtag_setW, xown_setW, xlen_setW, xi_setR, xi_setW, xr_setI, xr_setW, xww_setI, xww_setR, xi_setI, xr_setR, xww_setW, xE_new, xsz_new, xsl_new, hM.tx, hM.xp, hM.l3, pf2, ptg, xsub]; done) | (simp [-List.getD_eq_getElem?_getD, xE_setI, xsz_setI, xsl_setI, xtag_setI, xown_setI, xlen_setI, xE_setR, xsz_setR, xsl_setR, xtag_setR, xown_setR, xlen_setR, xE_setW, xsz_setW, xsl_setW, xtag_setW, xown_setW, xlen_setW, xi_setR, xi_setW, xr_setI, xr_setW, xww_setI, xww_setR, xi_setI, xr_setR, xww_setW, xE_new, xsz_new, xsl_new, hM.tx, hM.xp, hM.l3, pf2, ptg] <;> rfl)) (by simp [-List.getD_eq_getElem?_getD, xE_setI, xsz_setI, xsl_setI, xtag_setI, xown_setI, xlen_setI, xE_setR, xsz_setR, xsl_setR, xtag_setR, xown_setR, xlen_setR, xE_setW, xsz_setW, xsl_setW, xtag_setW, xown_setW, xlen_setW, xi_setR, xi_setW, xr_setI, xr_setW, xww_setI, xww_setR, xi_setI, xr_setR, xww_setW, xE_new, xsz_new, xsl_new, hM.tx, hM.xp, hM.l3, pf2, ptg]) ?_
  refine xw_callV (pc := 14) (xr_V (as := []) ok_J2_size rfl (by decide) q701 q702 q703 (by rw [hM.P.l2.1]; rfl) (by rw [hM.P.l2.1]; rfl) dX1_keepRow_14 rfl rfl (Nat.le_of_ble_eq_true rfl)) ((show XM M_J2_size (d + 80) [.ref (aL Z 4)] g (xOne (some (.int (nI ww))) g) from hlw ▸ SP_J2_size hM.P.l2)) ?_
  refine xw_newa_float (n := ww) (pc := 17) 10 dX1_keepRow_17 q1756 (by first | decide | assumption | omega) rfl (by omega) ?_
  refine xw_at (a := (xsz g)) (by rfl) ?_
  refine xw_astore_n (l' := [(2, _), (0, _), (1, _)]) (pc := 19) dX1_keepRow_19 rfl (by decide) rfl ?_
  refine xw_iconst (v := nI 0) (pc := 20) dX1_keepRow_20 rfl ?_
  refine xw_istore_n (l' := [(3, _), (2, _), (0, _), (1, _)]) (pc := 21) dX1_keepRow_21 rfl (by decide) rfl ?_
  exact lp_X1_keepRow hM hR h7 hrow (ww + 1) 0 (0 + (ww + 1)) (xNew g (xBlank 105 10 ww) ww) (by omega) (Nat.zero_le _) (xtag_newS rfl) (xown_newS rfl) (xlen_newS rfl) (fun j hj => absurd hj (Nat.not_lt_zero j)) FN (by omega) (hM.B.fr FN (fun j _ => xr_new hll))

theorem SP_X1_copyRow_F1 {d : Nat} {g : xG} {x : Nat} (hx : xtag g x = 1) {a b c : Int32} (ha : inR a (nI 0) (nI 2) = false) : XM M_X1_copyRow (d + 81) [.ref x, .int a, .int b, .int c] g (xThr (xsz g) (xExc g 23)) := by
  refine xm_of (by decide +kernel) (Nat.le_of_ble_eq_true rfl) ?_
  show XW _ _ 0 [(0, _), (1, _), (2, _), (3, _)] [] _ _
  refine xw_iload_n (pc := 0) dX1_copyRow_0 1 rfl ?_
  refine xw_callV (pc := 1) (xr_S (as := [_]) ok_X1_isRow rfl (by decide) q1753 q1754 dX1_copyRow_1 rfl rfl (Nat.le_of_ble_eq_true rfl)) ((show XM M_X1_isRow (d + 80) [.int a] _ (xOne (some (.int (bI false))) _) from by have h9 := SP_X1_isRow (d := d + 79) (g := g) (v := a); rw [ha] at h9; exact h9)) ?_
  refine xw_if_eq (pc := 4) 18 dX1_copyRow_4 rfl (fun _ => ?_) (fun hb => absurd hb (by decide))
  refine xw_iconst (v := nI 0) (pc := 18) dX1_copyRow_18 rfl ?_
  refine xw_callX (pc := 19) (xr_S (as := [_]) ok_X1_checkIndex rfl (by decide) q1252 q1066 dX1_copyRow_19 rfl rfl (Nat.le_of_ble_eq_true rfl)) (SP_X1_checkIndex_F) ?_
  exact xx_out0 rfl (by rw [xExc_tag]; decide) (by rw [xExc_tag]; decide) (by rw [xExc_own]; decide) ⟨rfl, rfl⟩

theorem SP_X1_copyRow_F2 {d : Nat} {g : xG} {x : Nat} (hx : xtag g x = 1) {a b c : Int32} (ha : inR a (nI 0) (nI 2) = true) (hb : inR b (nI 0) (nI 2) = false) : XM M_X1_copyRow (d + 81) [.ref x, .int a, .int b, .int c] g (xThr (xsz g) (xExc g 23)) := by
  refine xm_of (by decide +kernel) (Nat.le_of_ble_eq_true rfl) ?_
  show XW _ _ 0 [(0, _), (1, _), (2, _), (3, _)] [] _ _
  refine xw_iload_n (pc := 0) dX1_copyRow_0 1 rfl ?_
  refine xw_callV (pc := 1) (xr_S (as := [_]) ok_X1_isRow rfl (by decide) q1753 q1754 dX1_copyRow_1 rfl rfl (Nat.le_of_ble_eq_true rfl)) ((show XM M_X1_isRow (d + 80) [.int a] _ (xOne (some (.int (bI true))) _) from by have h9 := SP_X1_isRow (d := d + 79) (g := g) (v := a); rw [ha] at h9; exact h9)) ?_
  refine xw_if_eq (pc := 4) 18 dX1_copyRow_4 rfl (fun hb => absurd hb (by decide)) (fun _ => ?_)
  refine xw_iload_n (pc := 7) dX1_copyRow_7 2 rfl ?_
  refine xw_callV (pc := 8) (xr_S (as := [_]) ok_X1_isRow rfl (by decide) q1753 q1754 dX1_copyRow_8 rfl rfl (Nat.le_of_ble_eq_true rfl)) ((show XM M_X1_isRow (d + 80) [.int b] _ (xOne (some (.int (bI false))) _) from by have h9 := SP_X1_isRow (d := d + 79) (g := g) (v := b); rw [hb] at h9; exact h9)) ?_
  refine xw_if_eq (pc := 11) 18 dX1_copyRow_11 rfl (fun _ => ?_) (fun hb => absurd hb (by decide))
  refine xw_iconst (v := nI 0) (pc := 18) dX1_copyRow_18 rfl ?_
  refine xw_callX (pc := 19) (xr_S (as := [_]) ok_X1_checkIndex rfl (by decide) q1252 q1066 dX1_copyRow_19 rfl rfl (Nat.le_of_ble_eq_true rfl)) (SP_X1_checkIndex_F) ?_
  exact xx_out0 rfl (by rw [xExc_tag]; decide) (by rw [xExc_tag]; decide) (by rw [xExc_own]; decide) ⟨rfl, rfl⟩

theorem SP_X1_copyRow_F3 {d : Nat} {g : xG} {x : Nat} (hx : xtag g x = 1) {a b c : Int32} (ha : inR a (nI 0) (nI 2) = true) (hb : inR b (nI 0) (nI 2) = true) (hc : inR c (nI 0) (nI 1000) = false) : XM M_X1_copyRow (d + 81) [.ref x, .int a, .int b, .int c] g (xThr (xsz g) (xExc g 22)) := by
  refine xm_of (by decide +kernel) (Nat.le_of_ble_eq_true rfl) ?_
  show XW _ _ 0 [(0, _), (1, _), (2, _), (3, _)] [] _ _
  refine xw_iload_n (pc := 0) dX1_copyRow_0 1 rfl ?_
  refine xw_callV (pc := 1) (xr_S (as := [_]) ok_X1_isRow rfl (by decide) q1753 q1754 dX1_copyRow_1 rfl rfl (Nat.le_of_ble_eq_true rfl)) ((show XM M_X1_isRow (d + 80) [.int a] _ (xOne (some (.int (bI true))) _) from by have h9 := SP_X1_isRow (d := d + 79) (g := g) (v := a); rw [ha] at h9; exact h9)) ?_
  refine xw_if_eq (pc := 4) 18 dX1_copyRow_4 rfl (fun hb => absurd hb (by decide)) (fun _ => ?_)
  refine xw_iload_n (pc := 7) dX1_copyRow_7 2 rfl ?_
  refine xw_callV (pc := 8) (xr_S (as := [_]) ok_X1_isRow rfl (by decide) q1753 q1754 dX1_copyRow_8 rfl rfl (Nat.le_of_ble_eq_true rfl)) ((show XM M_X1_isRow (d + 80) [.int b] _ (xOne (some (.int (bI true))) _) from by have h9 := SP_X1_isRow (d := d + 79) (g := g) (v := b); rw [hb] at h9; exact h9)) ?_
  refine xw_if_eq (pc := 11) 18 dX1_copyRow_11 rfl (fun hb => absurd hb (by decide)) (fun _ => ?_)
  refine xw_iconst (v := nI 1) (pc := 14) dX1_copyRow_14 rfl ?_
  refine xw_goto (pc := 15) 19 dX1_copyRow_15 rfl ?_
  refine xw_callU (pc := 19) (xr_S (as := [_]) ok_X1_checkIndex rfl (by decide) q1252 q1066 dX1_copyRow_19 rfl rfl (Nat.le_of_ble_eq_true rfl)) (SP_X1_checkIndex_T) ?_
  refine xw_iload_n (pc := 22) dX1_copyRow_22 3 rfl ?_
  refine xw_iconst (v := nI 0) (pc := 23) dX1_copyRow_23 rfl ?_
  refine xw_sipush (v := nI 1000) (pc := 24) dX1_copyRow_24 (by decide +kernel) ?_
  refine xw_callV (pc := 27) (xr_S (as := [_, _, _]) ok_X1_isIn rfl (by decide) q1180 q784 dX1_copyRow_27 rfl rfl (Nat.le_of_ble_eq_true rfl)) ((show XM M_X1_isIn (d + 80) [.int c, .int (nI 0), .int (nI 1000)] _ (xOne (some (.int (bI false))) _) from by have h9 := SP_X1_isIn (d := d + 80) (g := g) (v := c) (lo := nI 0) (hi := nI 1000); rw [hc] at h9; exact h9)) ?_
  refine xw_callX (pc := 30) (xr_S (as := [_]) ok_X1_check rfl (by decide) q1181 q1182 dX1_copyRow_30 rfl rfl (Nat.le_of_ble_eq_true rfl)) (SP_X1_check_F) ?_
  exact xx_out0 rfl (by rw [xExc_tag]; decide) (by rw [xExc_tag]; decide) (by rw [xExc_own]; decide) ⟨rfl, rfl⟩

theorem SP_X1_copyRow_F4 {d : Nat} {g : xG} {x : Nat} (hx : xtag g x = 1) {rw0 : Nat} {s10 s11 : Nat → Int32} (hR : xRwQ g rw0 s10 s11) (h7 : xr g x 7 = some rw0) {f : Nat} {b c : Int32} (hf : f < 3) (hn : xr g rw0 f = none) (hb : inR b (nI 0) (nI 2) = true) (hc : inR c (nI 0) (nI 1000) = true) : XM M_X1_copyRow (d + 81) [.ref x, .int (nI f), .int b, .int c] g (xThr (xsz g) (xExc g 24)) := by
  have hI1 : inR (nI f) (nI 0) (nI 2) = true := inR_nat' (by decide) (by omega)
  refine xm_of (by decide +kernel) (Nat.le_of_ble_eq_true rfl) ?_
  show XW _ _ 0 [(0, _), (1, _), (2, _), (3, _)] [] _ _
  refine xw_iload_n (pc := 0) dX1_copyRow_0 1 rfl ?_
  refine xw_callV (pc := 1) (xr_S (as := [_]) ok_X1_isRow rfl (by decide) q1753 q1754 dX1_copyRow_1 rfl rfl (Nat.le_of_ble_eq_true rfl)) ((show XM M_X1_isRow (d + 80) [.int (nI f)] _ (xOne (some (.int (bI true))) _) from by have h9 := SP_X1_isRow (d := d + 79) (g := g) (v := (nI f)); rw [hI1] at h9; exact h9)) ?_
  refine xw_if_eq (pc := 4) 18 dX1_copyRow_4 rfl (fun hb => absurd hb (by decide)) (fun _ => ?_)
  refine xw_iload_n (pc := 7) dX1_copyRow_7 2 rfl ?_
  refine xw_callV (pc := 8) (xr_S (as := [_]) ok_X1_isRow rfl (by decide) q1753 q1754 dX1_copyRow_8 rfl rfl (Nat.le_of_ble_eq_true rfl)) ((show XM M_X1_isRow (d + 80) [.int b] _ (xOne (some (.int (bI true))) _) from by have h9 := SP_X1_isRow (d := d + 79) (g := g) (v := b); rw [hb] at h9; exact h9)) ?_
  refine xw_if_eq (pc := 11) 18 dX1_copyRow_11 rfl (fun hb => absurd hb (by decide)) (fun _ => ?_)
  refine xw_iconst (v := nI 1) (pc := 14) dX1_copyRow_14 rfl ?_
  refine xw_goto (pc := 15) 19 dX1_copyRow_15 rfl ?_
  refine xw_callU (pc := 19) (xr_S (as := [_]) ok_X1_checkIndex rfl (by decide) q1252 q1066 dX1_copyRow_19 rfl rfl (Nat.le_of_ble_eq_true rfl)) (SP_X1_checkIndex_T) ?_
  refine xw_iload_n (pc := 22) dX1_copyRow_22 3 rfl ?_
  refine xw_iconst (v := nI 0) (pc := 23) dX1_copyRow_23 rfl ?_
  refine xw_sipush (v := nI 1000) (pc := 24) dX1_copyRow_24 (by decide +kernel) ?_
  refine xw_callV (pc := 27) (xr_S (as := [_, _, _]) ok_X1_isIn rfl (by decide) q1180 q784 dX1_copyRow_27 rfl rfl (Nat.le_of_ble_eq_true rfl)) ((show XM M_X1_isIn (d + 80) [.int c, .int (nI 0), .int (nI 1000)] _ (xOne (some (.int (bI true))) _) from by have h9 := SP_X1_isIn (d := d + 80) (g := g) (v := c) (lo := nI 0) (hi := nI 1000); rw [hc] at h9; exact h9)) ?_
  refine xw_callU (pc := 30) (xr_S (as := [_]) ok_X1_check rfl (by decide) q1181 q1182 dX1_copyRow_30 rfl rfl (Nat.le_of_ble_eq_true rfl)) (SP_X1_check_T) ?_
  refine xw_aload_n (pc := 33) dX1_copyRow_33 0 rfl ?_
  refine xw_iload_n (pc := 34) dX1_copyRow_34 1 rfl ?_
  refine xw_callX (pc := 35) (xr_V (as := [_]) ok_X1_rowAt rfl (by decide) q1764 q1766 qs31 (by rw [hx]; rfl) (by rw [hx]; rfl) dX1_copyRow_35 rfl rfl (Nat.le_of_ble_eq_true rfl)) (SP_X1_rowAt_F2 (d := d) hR hx h7 hf hn) ?_
  exact xx_out0 rfl (by rw [xExc_tag]; decide) (by rw [xExc_tag]; decide) (by rw [xExc_own]; decide) ⟨rfl, rfl⟩

theorem lp_X1_copyRow {d : Nat} {g : xG} {x : Nat} (hx : xtag g x = 1) (hxo : xown g x = 1) {rw0 : Nat} {s10 s11 : Nat → Int32} (hR : xRwQ g rw0 s10 s11) (h7 : xr g x 7 = some rw0) {f t q many a : Nat} (hf : f < 3) (ht : t < 3) (hq : q ≤ 1000) (hn : xr g rw0 f = some a) (a1 : xtag g a = 105) (a3 : xlen g a = many) (hmy : many ≤ 12) (hok : ∀ j, j < many → fOKu (xi g a j).toUInt32) : ∀ (j k N : Nat) (gk : xG), many - k < j → k ≤ many → xtag gk (xsz g) = 105 → xown gk (xsz g) = 10 → xlen gk (xsz g) = many → (∀ j, j < k → xi gk (xsz g) j = (scV (xi g a j).toUInt32 q).toInt32) → (∀ j, k ≤ j → j < many → xi gk (xsz g) j = xi g a j) → xFr oNo N g gk → N ≤ 20 → XW M_X1_copyRow (d + 81) 52 [(6, .int (nI k)), (5, .int (nI (abF (fun j => scV (xi g a j).toUInt32 q) k))), (4, .ref (xsz g)), (0, .ref x), (1, .int (nI f)), (2, .int (nI t)), (3, .int (nI q))] [] gk (xVal (.int (nI (abF (fun j => scV (xi g a j).toUInt32 q) many))) (xRwC oNo g rw0 t many (fun j => (scV (xi g a j).toUInt32 q).toInt32) 40)) := by
  intro j
  induction j with
  | zero => intro k N gk h; omega
  | succ j ih =>
  intro k N gk hj hk b1 b2 b3 b4 b5 F hN
  obtain ⟨w1, w2, w3, -⟩ := hR
  have hab := abF_le (v := (fun j => scV (xi g a j).toUInt32 q)) k
  have hxl : x < xsz g := xlt (by rw [hx]; decide)
  have hwl : rw0 < xsz g := xlt (by rw [w1]; decide)
  have txk : xtag gk x = 1 := (F.tag hxl).trans hx
  have h7k : xr gk x 7 = some rw0 := (F.r' hxl (fun h => h)).trans h7
  have w1k : xtag gk rw0 = 114 := (F.tag hwl).trans w1
  have w2n : xown gk rw0 ≠ 0 := by rw [F.own hwl, w2]; decide
  have w3k : xlen gk rw0 = 3 := (F.len hwl).trans w3
  have b2n : xown gk (xsz g) ≠ 0 := by rw [b2]; decide
  refine xw_iload (pc := 52) dX1_copyRow_52 0 rfl ?_
  refine xw_aload (pc := 54) dX1_copyRow_54 2 rfl ?_
  refine xw_alen (q := 4) (pc := 56) dX1_copyRow_56 (by simp [-List.getD_eq_getElem?_getD, xE_setI, xsz_setI, xsl_setI, xtag_setI, xown_setI, xlen_setI, xE_setR, xsz_setR, xsl_setR, xtag_setR, xown_setR, xlen_setR, xE_setW, xsz_setW, xsl_setW, xtag_setW, xown_setW, xlen_setW, xi_setR, xi_setW, xr_setI, xr_setW, xww_setI, xww_setR, xi_setI, xr_setR, xww_setW, xE_new, xsz_new, xsl_new, txk, h7k, w1k, w3k, w2n, b1, b3, b2n]) (by first | decide | omega) ?_
  rw [show xlen _ (xsz g) = many from by simp [-List.getD_eq_getElem?_getD, xE_setI, xsz_setI, xsl_setI, xtag_setI, xown_setI, xlen_setI, xE_setR, xsz_setR, xsl_setR, xtag_setR, xown_setR, xlen_setR, xE_setW, xsz_setW, xsl_setW, xtag_setW, xown_setW, xlen_setW, xi_setR, xi_setW, xr_setI, xr_setW, xww_setI, xww_setR, xi_setI, xr_setR, xww_setW, xE_new, xsz_new, xsl_new, txk, h7k, w1k, w3k, w2n, b1, b3, b2n]]
  refine xw_icmp_ge (pc := 57) 100 dX1_copyRow_57 rfl (fun hb57 => ?_) (fun hb57 => ?_)
  · replace hb57 : many ≤ k := (nI_leI (a := many) (b := k) (by omega) (by omega)).mp hb57
    refine xw_aload_n (pc := 100) dX1_copyRow_100 3 rfl ?_
    refine xw_getS (b := rw0) (pc := 101) fd_X1_40 dX1_copyRow_101 (by first | assumption | (simp [-List.getD_eq_getElem?_getD, xE_setI, xsz_setI, xsl_setI, xtag_setI, xown_setI, xlen_setI, xE_setR, xsz_setR, xsl_setR, xtag_setR, xown_setR, xlen_setR, xE_setW, xsz_setW, xsl_setW, xtag_setW, xown_setW, xlen_setW, xi_setR, xi_setW, xr_setI, xr_setW, xww_setI, xww_setR, xi_setI, xr_setR, xww_setW, xE_new, xsz_new, xsl_new, txk, h7k, w1k, w3k, w2n, b1, b3, b2n, xsub]; done) | (simp [-List.getD_eq_getElem?_getD, xE_setI, xsz_setI, xsl_setI, xtag_setI, xown_setI, xlen_setI, xE_setR, xsz_setR, xsl_setR, xtag_setR, xown_setR, xlen_setR, xE_setW, xsz_setW, xsl_setW, xtag_setW, xown_setW, xlen_setW, xi_setR, xi_setW, xr_setI, xr_setW, xww_setI, xww_setR, xi_setI, xr_setR, xww_setW, xE_new, xsz_new, xsl_new, txk, h7k, w1k, w3k, w2n, b1, b3, b2n] <;> rfl)) (by simp [-List.getD_eq_getElem?_getD, xE_setI, xsz_setI, xsl_setI, xtag_setI, xown_setI, xlen_setI, xE_setR, xsz_setR, xsl_setR, xtag_setR, xown_setR, xlen_setR, xE_setW, xsz_setW, xsl_setW, xtag_setW, xown_setW, xlen_setW, xi_setR, xi_setW, xr_setI, xr_setW, xww_setI, xww_setR, xi_setI, xr_setR, xww_setW, xE_new, xsz_new, xsl_new, txk, h7k, w1k, w3k, w2n, b1, b3, b2n]) ?_
    refine xw_iload_n (pc := 104) dX1_copyRow_104 5 rfl ?_
    refine xw_aload (pc := 105) dX1_copyRow_105 2 rfl ?_
    refine xw_aastF (k := t) (pc := 107) dX1_copyRow_107 (by simp [-List.getD_eq_getElem?_getD, xE_setI, xsz_setI, xsl_setI, xtag_setI, xown_setI, xlen_setI, xE_setR, xsz_setR, xsl_setR, xtag_setR, xown_setR, xlen_setR, xE_setW, xsz_setW, xsl_setW, xtag_setW, xown_setW, xlen_setW, xi_setR, xi_setW, xr_setI, xr_setW, xww_setI, xww_setR, xi_setI, xr_setR, xww_setW, xE_new, xsz_new, xsl_new, txk, h7k, w1k, w3k, w2n, b1, b3, b2n]) (by first | assumption | (simp [-List.getD_eq_getElem?_getD, xE_setI, xsz_setI, xsl_setI, xtag_setI, xown_setI, xlen_setI, xE_setR, xsz_setR, xsl_setR, xtag_setR, xown_setR, xlen_setR, xE_setW, xsz_setW, xsl_setW, xtag_setW, xown_setW, xlen_setW, xi_setR, xi_setW, xr_setI, xr_setW, xww_setI, xww_setR, xi_setI, xr_setR, xww_setW, xE_new, xsz_new, xsl_new, txk, h7k, w1k, w3k, w2n, b1, b3, b2n]; done) | (simp [-List.getD_eq_getElem?_getD, xE_setI, xsz_setI, xsl_setI, xtag_setI, xown_setI, xlen_setI, xE_setR, xsz_setR, xsl_setR, xtag_setR, xown_setR, xlen_setR, xE_setW, xsz_setW, xsl_setW, xtag_setW, xown_setW, xlen_setW, xi_setR, xi_setW, xr_setI, xr_setW, xww_setI, xww_setR, xi_setI, xr_setR, xww_setW, xE_new, xsz_new, xsl_new, txk, h7k, w1k, w3k, w2n, b1, b3, b2n]; assumption)) rfl (by rw [w3k]; omega) (by exact b1) ?_
    refine xw_iload (pc := 108) dX1_copyRow_108 1 rfl ?_
    refine xw_iret (pc := 110) .int dX1_copyRow_110 rfl ?_ 
    have ek : k = many := by omega
    subst ek
    exact ⟨rfl, xRwC.of w1 w2 (fun h => h) (Nat.le_refl _) b1 b2 b3 b4 (F.sub (fun _ h => h) (show N ≤ 40 by omega))⟩
  · replace hb57 : ¬ (many ≤ k) := mt (nI_leI (a := many) (b := k) (by omega) (by omega)).mpr hb57
    have hkm : k < many := by omega
    refine xw_aload (pc := 60) dX1_copyRow_60 2 rfl ?_
    refine xw_iload (pc := 62) dX1_copyRow_62 0 rfl ?_
    refine xw_aload (pc := 64) dX1_copyRow_64 2 rfl ?_
    refine xw_iload (pc := 66) dX1_copyRow_66 0 rfl ?_
    refine xw_fald (k := k) (pc := 68) dX1_copyRow_68 (by simp [-List.getD_eq_getElem?_getD, xE_setI, xsz_setI, xsl_setI, xtag_setI, xown_setI, xlen_setI, xE_setR, xsz_setR, xsl_setR, xtag_setR, xown_setR, xlen_setR, xE_setW, xsz_setW, xsl_setW, xtag_setW, xown_setW, xlen_setW, xi_setR, xi_setW, xr_setI, xr_setW, xww_setI, xww_setR, xi_setI, xr_setR, xww_setW, xE_new, xsz_new, xsl_new, txk, h7k, w1k, w3k, w2n, b1, b3, b2n]) rfl (by rw [b3]; exact hkm) ?_
    rw [b5 k (Nat.le_refl _) hkm]
    refine xw_iload_n (pc := 69) dX1_copyRow_69 6 rfl ?_
    refine xw_callV (pc := 70) (xr_S (as := [_, _]) ok_X1_scaled rfl (by decide) q1772 q1773 dX1_copyRow_70 rfl rfl (Nat.le_of_ble_eq_true rfl)) (SP_X1_scaled hq (hok k hkm)) ?_
    refine xw_fast (k := k) (pc := 73) dX1_copyRow_73 (by simp [-List.getD_eq_getElem?_getD, xE_setI, xsz_setI, xsl_setI, xtag_setI, xown_setI, xlen_setI, xE_setR, xsz_setR, xsl_setR, xtag_setR, xown_setR, xlen_setR, xE_setW, xsz_setW, xsl_setW, xtag_setW, xown_setW, xlen_setW, xi_setR, xi_setW, xr_setI, xr_setW, xww_setI, xww_setR, xi_setI, xr_setR, xww_setW, xE_new, xsz_new, xsl_new, txk, h7k, w1k, w3k, w2n, b1, b3, b2n]) (by first | assumption | (simp [-List.getD_eq_getElem?_getD, xE_setI, xsz_setI, xsl_setI, xtag_setI, xown_setI, xlen_setI, xE_setR, xsz_setR, xsl_setR, xtag_setR, xown_setR, xlen_setR, xE_setW, xsz_setW, xsl_setW, xtag_setW, xown_setW, xlen_setW, xi_setR, xi_setW, xr_setI, xr_setW, xww_setI, xww_setR, xi_setI, xr_setR, xww_setW, xE_new, xsz_new, xsl_new, txk, h7k, w1k, w3k, w2n, b1, b3, b2n]; done) | (simp [-List.getD_eq_getElem?_getD, xE_setI, xsz_setI, xsl_setI, xtag_setI, xown_setI, xlen_setI, xE_setR, xsz_setR, xsl_setR, xtag_setR, xown_setR, xlen_setR, xE_setW, xsz_setW, xsl_setW, xtag_setW, xown_setW, xlen_setW, xi_setR, xi_setW, xr_setI, xr_setW, xww_setI, xww_setR, xi_setI, xr_setR, xww_setW, xE_new, xsz_new, xsl_new, txk, h7k, w1k, w3k, w2n, b1, b3, b2n]; assumption)) rfl (by rw [b3]; exact hkm) ?_
    refine xw_iload (pc := 74) dX1_copyRow_74 1 rfl ?_
    refine xw_aload (pc := 76) dX1_copyRow_76 2 rfl ?_
    refine xw_iload (pc := 78) dX1_copyRow_78 0 rfl ?_
    refine xw_fald (k := k) (pc := 80) dX1_copyRow_80 (by simp [-List.getD_eq_getElem?_getD, xE_setI, xsz_setI, xsl_setI, xtag_setI, xown_setI, xlen_setI, xE_setR, xsz_setR, xsl_setR, xtag_setR, xown_setR, xlen_setR, xE_setW, xsz_setW, xsl_setW, xtag_setW, xown_setW, xlen_setW, xi_setR, xi_setW, xr_setI, xr_setW, xww_setI, xww_setR, xi_setI, xr_setR, xww_setW, xE_new, xsz_new, xsl_new, txk, h7k, w1k, w3k, w2n, b1, b3, b2n]) rfl (by rw [xlen_setI, b3]; exact hkm) ?_
    rw [show xi (xsetI gk (xsz g) k (scV (xi g a k).toUInt32 q).toInt32) (xsz g) k = (scV (xi g a k).toUInt32 q).toInt32 from xi_setIS (by rw [b1]; decide)]
    refine xw_fconst1 (pc := 81) dX1_copyRow_81 ?_
    refine xw_fcmp (pc := 82) dX1_copyRow_82 ?_
    refine xw_if_le (pc := 83) 90 dX1_copyRow_83 rfl (fun hb83 => ?_) (fun hb83 => ?_)
    · refine xw_iconst (v := nI 0) (pc := 90) dX1_copyRow_90 rfl ?_
      refine xn_iadd (pc := 91) dX1_copyRow_91 ?_
      refine xw_istore (l' := [(5, _), (6, _), (4, _), (0, _), (1, _), (2, _), (3, _)]) (pc := 92) dX1_copyRow_92 (by decide) rfl ?_
      refine xw_iinc (v := nI (k + 1)) (l' := [(6, _), (5, _), (4, _), (0, _), (1, _), (2, _), (3, _)]) (pc := 94) dX1_copyRow_94 1 rfl (nI_add _ 1) (by decide) rfl ?_
      refine xw_goto (pc := 97) 52 dX1_copyRow_97 rfl ?_
      have h9 := ih (k + 1) N (xsetI gk (xsz g) k (scV (xi g a k).toUInt32 q).toInt32) (by omega) (by omega) (xtag_setI.trans b1) (xown_setI.trans b2) (xlen_setI.trans b3) (fun j hj => by
        by_cases e : j = k
        · subst e
          exact xi_setIS (by rw [b1]; decide)
        · exact (xi_setIK e).trans (b4 j (by omega))) (fun j h1 h2 => (xi_setIK (by omega)).trans (b5 j (by omega) h2)) (F.si (Or.inl (Nat.le_refl _))) hN
      first
      | (rw [show abF (fun j => scV (xi g a j).toUInt32 q) (k + 1) = abF (fun j => scV (xi g a j).toUInt32 q) k from if_pos hb83] at h9
         exact h9)
      | (rw [show abF (fun j => scV (xi g a j).toUInt32 q) (k + 1) = abF (fun j => scV (xi g a j).toUInt32 q) k + 1 from if_neg hb83] at h9
         exact h9)
    · refine xw_iconst (v := nI 1) (pc := 86) dX1_copyRow_86 rfl ?_
      refine xw_goto (pc := 87) 91 dX1_copyRow_87 rfl ?_
      refine xn_iadd (pc := 91) dX1_copyRow_91 ?_
      refine xw_istore (l' := [(5, _), (6, _), (4, _), (0, _), (1, _), (2, _), (3, _)]) (pc := 92) dX1_copyRow_92 (by decide) rfl ?_
      refine xw_iinc (v := nI (k + 1)) (l' := [(6, _), (5, _), (4, _), (0, _), (1, _), (2, _), (3, _)]) (pc := 94) dX1_copyRow_94 1 rfl (nI_add _ 1) (by decide) rfl ?_
      refine xw_goto (pc := 97) 52 dX1_copyRow_97 rfl ?_
      have h9 := ih (k + 1) N (xsetI gk (xsz g) k (scV (xi g a k).toUInt32 q).toInt32) (by omega) (by omega) (xtag_setI.trans b1) (xown_setI.trans b2) (xlen_setI.trans b3) (fun j hj => by
        by_cases e : j = k
        · subst e
          exact xi_setIS (by rw [b1]; decide)
        · exact (xi_setIK e).trans (b4 j (by omega))) (fun j h1 h2 => (xi_setIK (by omega)).trans (b5 j (by omega) h2)) (F.si (Or.inl (Nat.le_refl _))) hN
      first
      | (rw [show abF (fun j => scV (xi g a j).toUInt32 q) (k + 1) = abF (fun j => scV (xi g a j).toUInt32 q) k from if_pos hb83] at h9
         exact h9)
      | (rw [show abF (fun j => scV (xi g a j).toUInt32 q) (k + 1) = abF (fun j => scV (xi g a j).toUInt32 q) k + 1 from if_neg hb83] at h9
         exact h9)
theorem SP_X1_copyRow {d : Nat} {g : xG} {x : Nat} (hx : xtag g x = 1) (hxo : xown g x = 1) {rw0 : Nat} {s10 s11 : Nat → Int32} (hR : xRwQ g rw0 s10 s11) (h7 : xr g x 7 = some rw0) {f t q many a : Nat} (hf : f < 3) (ht : t < 3) (hq : q ≤ 1000) (hn : xr g rw0 f = some a) (a1 : xtag g a = 105) (a3 : xlen g a = many) (hmy : many ≤ 12) (hok : ∀ j, j < many → fOKu (xi g a j).toUInt32) : XM M_X1_copyRow (d + 81) [.ref x, .int (nI f), .int (nI t), .int (nI q)] g (xVal (.int (nI (abF (fun j => scV (xi g a j).toUInt32 q) many))) (xRwC oNo g rw0 t many (fun j => (scV (xi g a j).toUInt32 q).toInt32) 40)) := by
  have hI1 : inR (nI f) (nI 0) (nI 2) = true := inR_nat' (by decide) (by omega)
  have hI2 : inR (nI t) (nI 0) (nI 2) = true := inR_nat' (by decide) (by omega)
  have hI3 : inR (nI q) (nI 0) (nI 1000) = true := inR_nat' (by decide) hq
  have tC : xtag (xNew g (105, 10, xlen g a, (xc g a).2.2.2) (xlen g a)) (xsz g) = 105 := xtag_newS rfl
  have lC : xlen (xNew g (105, 10, xlen g a, (xc g a).2.2.2) (xlen g a)) (xsz g) = many := (xlen_newS rfl).trans a3
  refine xm_of (by decide +kernel) (Nat.le_of_ble_eq_true rfl) ?_
  show XW _ _ 0 [(0, _), (1, _), (2, _), (3, _)] [] _ _
  refine xw_iload_n (pc := 0) dX1_copyRow_0 1 rfl ?_
  refine xw_callV (pc := 1) (xr_S (as := [_]) ok_X1_isRow rfl (by decide) q1753 q1754 dX1_copyRow_1 rfl rfl (Nat.le_of_ble_eq_true rfl)) ((show XM M_X1_isRow (d + 80) [.int (nI f)] _ (xOne (some (.int (bI true))) _) from by have h9 := SP_X1_isRow (d := d + 79) (g := g) (v := (nI f)); rw [hI1] at h9; exact h9)) ?_
  refine xw_if_eq (pc := 4) 18 dX1_copyRow_4 rfl (fun hb => absurd hb (by decide)) (fun _ => ?_)
  refine xw_iload_n (pc := 7) dX1_copyRow_7 2 rfl ?_
  refine xw_callV (pc := 8) (xr_S (as := [_]) ok_X1_isRow rfl (by decide) q1753 q1754 dX1_copyRow_8 rfl rfl (Nat.le_of_ble_eq_true rfl)) ((show XM M_X1_isRow (d + 80) [.int (nI t)] _ (xOne (some (.int (bI true))) _) from by have h9 := SP_X1_isRow (d := d + 79) (g := g) (v := (nI t)); rw [hI2] at h9; exact h9)) ?_
  refine xw_if_eq (pc := 11) 18 dX1_copyRow_11 rfl (fun hb => absurd hb (by decide)) (fun _ => ?_)
  refine xw_iconst (v := nI 1) (pc := 14) dX1_copyRow_14 rfl ?_
  refine xw_goto (pc := 15) 19 dX1_copyRow_15 rfl ?_
  refine xw_callU (pc := 19) (xr_S (as := [_]) ok_X1_checkIndex rfl (by decide) q1252 q1066 dX1_copyRow_19 rfl rfl (Nat.le_of_ble_eq_true rfl)) (SP_X1_checkIndex_T) ?_
  refine xw_iload_n (pc := 22) dX1_copyRow_22 3 rfl ?_
  refine xw_iconst (v := nI 0) (pc := 23) dX1_copyRow_23 rfl ?_
  refine xw_sipush (v := nI 1000) (pc := 24) dX1_copyRow_24 (by decide +kernel) ?_
  refine xw_callV (pc := 27) (xr_S (as := [_, _, _]) ok_X1_isIn rfl (by decide) q1180 q784 dX1_copyRow_27 rfl rfl (Nat.le_of_ble_eq_true rfl)) ((show XM M_X1_isIn (d + 80) [.int (nI q), .int (nI 0), .int (nI 1000)] _ (xOne (some (.int (bI true))) _) from by have h9 := SP_X1_isIn (d := d + 80) (g := g) (v := (nI q)) (lo := nI 0) (hi := nI 1000); rw [hI3] at h9; exact h9)) ?_
  refine xw_callU (pc := 30) (xr_S (as := [_]) ok_X1_check rfl (by decide) q1181 q1182 dX1_copyRow_30 rfl rfl (Nat.le_of_ble_eq_true rfl)) (SP_X1_check_T) ?_
  refine xw_aload_n (pc := 33) dX1_copyRow_33 0 rfl ?_
  refine xw_iload_n (pc := 34) dX1_copyRow_34 1 rfl ?_
  refine xw_callV (pc := 35) (xr_V (as := [_]) ok_X1_rowAt rfl (by decide) q1764 q1766 qs31 (by rw [hx]; rfl) (by rw [hx]; rfl) dX1_copyRow_35 rfl rfl (Nat.le_of_ble_eq_true rfl)) (SP_X1_rowAt (d := d) hR hx h7 hf hn) ?_
  refine xw_cloneF 10 (by decide) (pc := 38) dX1_copyRow_38 q1768 a1 (Nat.le_of_ble_eq_true rfl) ?_
  refine xw_chkA (q := 4) (pc := 41) dX1_copyRow_41 q658 (by exact tC) (by decide) (fun s h => x_nmF s h) ?_
  refine xw_astore (l' := [(4, _), (0, _), (1, _), (2, _), (3, _)]) (pc := 44) dX1_copyRow_44 (by decide) rfl ?_
  refine xw_iconst (v := nI 0) (pc := 46) dX1_copyRow_46 rfl ?_
  refine xw_istore (l' := [(5, _), (4, _), (0, _), (1, _), (2, _), (3, _)]) (pc := 47) dX1_copyRow_47 (by decide) rfl ?_
  refine xw_iconst (v := nI 0) (pc := 49) dX1_copyRow_49 rfl ?_
  refine xw_istore (l' := [(6, _), (5, _), (4, _), (0, _), (1, _), (2, _), (3, _)]) (pc := 50) dX1_copyRow_50 (by decide) rfl ?_
  exact lp_X1_copyRow hx hxo hR h7 hf ht hq hn a1 a3 hmy hok (many + 1) 0 (0 + (xlen g a + 1)) (xNew g (105, 10, xlen g a, (xc g a).2.2.2) (xlen g a)) (by omega) (Nat.zero_le _) tC (xown_newS rfl) lC (fun j hj => absurd hj (Nat.not_lt_zero j)) (fun j _ _ => xi_newS rfl) (xFr.rf (n := 0)).nw (by omega)

