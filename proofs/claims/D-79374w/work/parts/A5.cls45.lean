/-! CLASS 45: reasons, faults, counts -/
set_option maxRecDepth 100000
theorem SP_X1_reason_F {d : Nat} {g : xG} {x : Nat} (hx : xtag g x = 1) {b : Bool} (h4 : xi g x 4 = 0) : XM M_X1_reason (d + 80) [.ref x, .int (bI b)] g (xThr (xsz g) (xExc g 25)) := by
  refine xm_of (by decide +kernel) (Nat.le_of_ble_eq_true rfl) ?_
  show XW _ _ 0 [(0, _), (1, _)] [] _ _
  refine xw_aload_n (pc := 0) dX1_reason_0 0 rfl ?_
  refine xw_getI (pc := 1) fd_X1_85 dX1_reason_1 (by first | assumption | (simp [-List.getD_eq_getElem?_getD, xE_setI, xsz_setI, xsl_setI, xtag_setI, xown_setI, xlen_setI, xE_setR, xsz_setR, xsl_setR, xtag_setR, xown_setR, xlen_setR, xE_setW, xsz_setW, xsl_setW, xtag_setW, xown_setW, xlen_setW, xi_setR, xi_setW, xr_setI, xr_setW, xww_setI, xww_setR, xi_setI, xr_setR, xww_setW, xE_new, xsz_new, xsl_new, hx, xsub]; done) | (simp [-List.getD_eq_getElem?_getD, xE_setI, xsz_setI, xsl_setI, xtag_setI, xown_setI, xlen_setI, xE_setR, xsz_setR, xsl_setR, xtag_setR, xown_setR, xlen_setR, xE_setW, xsz_setW, xsl_setW, xtag_setW, xown_setW, xlen_setW, xi_setR, xi_setW, xr_setI, xr_setW, xww_setI, xww_setR, xi_setI, xr_setR, xww_setW, xE_new, xsz_new, xsl_new, hx] <;> rfl)) ?_
  refine xw_if_eq (pc := 4) 11 dX1_reason_4 rfl (fun hb4 => ?_) (fun hb4 => ?_)
  rotate_left
  · exfalso
    exact hb4 h4
  refine xw_iconst (v := nI 0) (pc := 11) dX1_reason_11 rfl ?_
  refine xw_callX (pc := 12) (xr_S (as := [_]) ok_X1_checkElement rfl (by decide) q1495 q1496 dX1_reason_12 rfl rfl (Nat.le_of_ble_eq_true rfl)) (SP_X1_checkElement_F) ?_
  exact xx_out0 rfl (by rw [xExc_tag]; decide) (by rw [xExc_tag]; decide) (by rw [xExc_own]; decide) ⟨rfl, rfl⟩

theorem SP_X1_reason {d : Nat} {g : xG} {x : Nat} (hx : xtag g x = 1) {b : Bool} (h4 : xi g x 4 ≠ 0) : XM M_X1_reason (d + 80) [.ref x, .int (bI b)] g (xOne (some (.int (if b then xi g x 5 else xi g x 4))) g) := by
  refine xm_of (by decide +kernel) (Nat.le_of_ble_eq_true rfl) ?_
  show XW _ _ 0 [(0, _), (1, _)] [] _ _
  refine xw_aload_n (pc := 0) dX1_reason_0 0 rfl ?_
  refine xw_getI (pc := 1) fd_X1_85 dX1_reason_1 (by first | assumption | (simp [-List.getD_eq_getElem?_getD, xE_setI, xsz_setI, xsl_setI, xtag_setI, xown_setI, xlen_setI, xE_setR, xsz_setR, xsl_setR, xtag_setR, xown_setR, xlen_setR, xE_setW, xsz_setW, xsl_setW, xtag_setW, xown_setW, xlen_setW, xi_setR, xi_setW, xr_setI, xr_setW, xww_setI, xww_setR, xi_setI, xr_setR, xww_setW, xE_new, xsz_new, xsl_new, hx, xsub]; done) | (simp [-List.getD_eq_getElem?_getD, xE_setI, xsz_setI, xsl_setI, xtag_setI, xown_setI, xlen_setI, xE_setR, xsz_setR, xsl_setR, xtag_setR, xown_setR, xlen_setR, xE_setW, xsz_setW, xsl_setW, xtag_setW, xown_setW, xlen_setW, xi_setR, xi_setW, xr_setI, xr_setW, xww_setI, xww_setR, xi_setI, xr_setR, xww_setW, xE_new, xsz_new, xsl_new, hx] <;> rfl)) ?_
  refine xw_if_eq (pc := 4) 11 dX1_reason_4 rfl (fun hb4 => ?_) (fun hb4 => ?_)
  · exfalso
    exact h4 hb4
  refine xw_iconst (v := nI 1) (pc := 7) dX1_reason_7 rfl ?_
  refine xw_goto (pc := 8) 12 dX1_reason_8 rfl ?_
  refine xw_callU (pc := 12) (xr_S (as := [_]) ok_X1_checkElement rfl (by decide) q1495 q1496 dX1_reason_12 rfl rfl (Nat.le_of_ble_eq_true rfl)) (SP_X1_checkElement_T) ?_
  refine xw_iload_n (pc := 15) dX1_reason_15 1 rfl ?_
  refine xw_if_eq (pc := 16) 26 dX1_reason_16 rfl (fun hb16 => ?_) (fun hb16 => ?_)
  · replace hb16 := bI_0.mp hb16
    refine xw_aload_n (pc := 26) dX1_reason_26 0 rfl ?_
    refine xw_getI (pc := 27) fd_X1_85 dX1_reason_27 (by first | assumption | (simp [-List.getD_eq_getElem?_getD, xE_setI, xsz_setI, xsl_setI, xtag_setI, xown_setI, xlen_setI, xE_setR, xsz_setR, xsl_setR, xtag_setR, xown_setR, xlen_setR, xE_setW, xsz_setW, xsl_setW, xtag_setW, xown_setW, xlen_setW, xi_setR, xi_setW, xr_setI, xr_setW, xww_setI, xww_setR, xi_setI, xr_setR, xww_setW, xE_new, xsz_new, xsl_new, hx, xsub]; done) | (simp [-List.getD_eq_getElem?_getD, xE_setI, xsz_setI, xsl_setI, xtag_setI, xown_setI, xlen_setI, xE_setR, xsz_setR, xsl_setR, xtag_setR, xown_setR, xlen_setR, xE_setW, xsz_setW, xsl_setW, xtag_setW, xown_setW, xlen_setW, xi_setR, xi_setW, xr_setI, xr_setW, xww_setI, xww_setR, xi_setI, xr_setR, xww_setW, xE_new, xsz_new, xsl_new, hx] <;> rfl)) ?_
    refine xw_iret (pc := 30) .int dX1_reason_30 rfl ?_ 
    rw [hb16]
    exact ⟨rfl, rfl⟩
  · replace hb16 := bI_n0.mp hb16
    refine xw_aload_n (pc := 19) dX1_reason_19 0 rfl ?_
    refine xw_getI (pc := 20) fd_X1_89 dX1_reason_20 (by first | assumption | (simp [-List.getD_eq_getElem?_getD, xE_setI, xsz_setI, xsl_setI, xtag_setI, xown_setI, xlen_setI, xE_setR, xsz_setR, xsl_setR, xtag_setR, xown_setR, xlen_setR, xE_setW, xsz_setW, xsl_setW, xtag_setW, xown_setW, xlen_setW, xi_setR, xi_setW, xr_setI, xr_setW, xww_setI, xww_setR, xi_setI, xr_setR, xww_setW, xE_new, xsz_new, xsl_new, hx, xsub]; done) | (simp [-List.getD_eq_getElem?_getD, xE_setI, xsz_setI, xsl_setI, xtag_setI, xown_setI, xlen_setI, xE_setR, xsz_setR, xsl_setR, xtag_setR, xown_setR, xlen_setR, xE_setW, xsz_setW, xsl_setW, xtag_setW, xown_setW, xlen_setW, xi_setR, xi_setW, xr_setI, xr_setW, xww_setI, xww_setR, xi_setI, xr_setR, xww_setW, xE_new, xsz_new, xsl_new, hx] <;> rfl)) ?_
    refine xw_goto (pc := 23) 30 dX1_reason_23 rfl ?_
    refine xw_iret (pc := 30) .int dX1_reason_30 rfl ?_ 
    rw [hb16]
    exact ⟨rfl, rfl⟩

theorem SP_X1_faultPosition_F {d : Nat} {g : xG} {x : Nat} (hx : xtag g x = 1) (h9 : xi g x 9 = -1) : XM M_X1_faultPosition (d + 80) [.ref x] g (xThr (xsz g) (xExc g 25)) := by
  refine xm_of (by decide +kernel) (Nat.le_of_ble_eq_true rfl) ?_
  show XW _ _ 0 [(0, _)] [] _ _
  refine xw_aload_n (pc := 0) dX1_faultPosition_0 0 rfl ?_
  refine xw_getI (pc := 1) fd_X1_51 dX1_faultPosition_1 (by first | assumption | (simp [-List.getD_eq_getElem?_getD, xE_setI, xsz_setI, xsl_setI, xtag_setI, xown_setI, xlen_setI, xE_setR, xsz_setR, xsl_setR, xtag_setR, xown_setR, xlen_setR, xE_setW, xsz_setW, xsl_setW, xtag_setW, xown_setW, xlen_setW, xi_setR, xi_setW, xr_setI, xr_setW, xww_setI, xww_setR, xi_setI, xr_setR, xww_setW, xE_new, xsz_new, xsl_new, hx, xsub]; done) | (simp [-List.getD_eq_getElem?_getD, xE_setI, xsz_setI, xsl_setI, xtag_setI, xown_setI, xlen_setI, xE_setR, xsz_setR, xsl_setR, xtag_setR, xown_setR, xlen_setR, xE_setW, xsz_setW, xsl_setW, xtag_setW, xown_setW, xlen_setW, xi_setR, xi_setW, xr_setI, xr_setW, xww_setI, xww_setR, xi_setI, xr_setR, xww_setW, xE_new, xsz_new, xsl_new, hx] <;> rfl)) ?_
  refine xw_iconst (v := -1) (pc := 4) dX1_faultPosition_4 (by decide +kernel) ?_
  refine xw_icmp_eq (pc := 5) 12 dX1_faultPosition_5 rfl (fun hb5 => ?_) (fun hb5 => ?_)
  rotate_left
  · exfalso
    exact hb5 h9
  refine xw_iconst (v := nI 0) (pc := 12) dX1_faultPosition_12 rfl ?_
  refine xw_callX (pc := 13) (xr_S (as := [_]) ok_X1_checkElement rfl (by decide) q1495 q1496 dX1_faultPosition_13 rfl rfl (Nat.le_of_ble_eq_true rfl)) (SP_X1_checkElement_F) ?_
  exact xx_out0 rfl (by rw [xExc_tag]; decide) (by rw [xExc_tag]; decide) (by rw [xExc_own]; decide) ⟨rfl, rfl⟩

theorem SP_X1_faultPosition {d : Nat} {g : xG} {x : Nat} (hx : xtag g x = 1) (h9 : xi g x 9 ≠ -1) : XM M_X1_faultPosition (d + 80) [.ref x] g (xOne (some (.int (xi g x 9))) g) := by
  refine xm_of (by decide +kernel) (Nat.le_of_ble_eq_true rfl) ?_
  show XW _ _ 0 [(0, _)] [] _ _
  refine xw_aload_n (pc := 0) dX1_faultPosition_0 0 rfl ?_
  refine xw_getI (pc := 1) fd_X1_51 dX1_faultPosition_1 (by first | assumption | (simp [-List.getD_eq_getElem?_getD, xE_setI, xsz_setI, xsl_setI, xtag_setI, xown_setI, xlen_setI, xE_setR, xsz_setR, xsl_setR, xtag_setR, xown_setR, xlen_setR, xE_setW, xsz_setW, xsl_setW, xtag_setW, xown_setW, xlen_setW, xi_setR, xi_setW, xr_setI, xr_setW, xww_setI, xww_setR, xi_setI, xr_setR, xww_setW, xE_new, xsz_new, xsl_new, hx, xsub]; done) | (simp [-List.getD_eq_getElem?_getD, xE_setI, xsz_setI, xsl_setI, xtag_setI, xown_setI, xlen_setI, xE_setR, xsz_setR, xsl_setR, xtag_setR, xown_setR, xlen_setR, xE_setW, xsz_setW, xsl_setW, xtag_setW, xown_setW, xlen_setW, xi_setR, xi_setW, xr_setI, xr_setW, xww_setI, xww_setR, xi_setI, xr_setR, xww_setW, xE_new, xsz_new, xsl_new, hx] <;> rfl)) ?_
  refine xw_iconst (v := -1) (pc := 4) dX1_faultPosition_4 (by decide +kernel) ?_
  refine xw_icmp_eq (pc := 5) 12 dX1_faultPosition_5 rfl (fun hb5 => ?_) (fun hb5 => ?_)
  · exfalso
    exact h9 hb5
  refine xw_iconst (v := nI 1) (pc := 8) dX1_faultPosition_8 rfl ?_
  refine xw_goto (pc := 9) 13 dX1_faultPosition_9 rfl ?_
  refine xw_callU (pc := 13) (xr_S (as := [_]) ok_X1_checkElement rfl (by decide) q1495 q1496 dX1_faultPosition_13 rfl rfl (Nat.le_of_ble_eq_true rfl)) (SP_X1_checkElement_T) ?_
  refine xw_aload_n (pc := 16) dX1_faultPosition_16 0 rfl ?_
  refine xw_getI (pc := 17) fd_X1_51 dX1_faultPosition_17 (by first | assumption | (simp [-List.getD_eq_getElem?_getD, xE_setI, xsz_setI, xsl_setI, xtag_setI, xown_setI, xlen_setI, xE_setR, xsz_setR, xsl_setR, xtag_setR, xown_setR, xlen_setR, xE_setW, xsz_setW, xsl_setW, xtag_setW, xown_setW, xlen_setW, xi_setR, xi_setW, xr_setI, xr_setW, xww_setI, xww_setR, xi_setI, xr_setR, xww_setW, xE_new, xsz_new, xsl_new, hx, xsub]; done) | (simp [-List.getD_eq_getElem?_getD, xE_setI, xsz_setI, xsl_setI, xtag_setI, xown_setI, xlen_setI, xE_setR, xsz_setR, xsl_setR, xtag_setR, xown_setR, xlen_setR, xE_setW, xsz_setW, xsl_setW, xtag_setW, xown_setW, xlen_setW, xi_setR, xi_setW, xr_setI, xr_setW, xww_setI, xww_setR, xi_setI, xr_setR, xww_setW, xE_new, xsz_new, xsl_new, hx] <;> rfl)) ?_
  refine xw_iret (pc := 20) .int dX1_faultPosition_20 rfl ?_ 
  exact ⟨rfl, rfl⟩

theorem lp_X1_deepest {d : Nat} {g : xG} {x p lk fa ka la n rr ww : Nat} {Z : xAd} {S : xMS} (hM : xMn g x p lk fa ka la Z S n rr ww) : ∀ (j k : Nat), rr - k < j → k ≤ rr → XW M_X1_deepest (d + 79) 4 [(2, .int (nI k)), (1, .int (maxD (S 1) k)), (0, .ref x)] [] g (xOne (some (.int (maxD (S 1) rr))) g) := by
  have hlr := hM.P.lr
  have r16 := hM.P.wf.r16
  have tpp := hM.P.tag
  have fp1 := hM.P.f1
  intro j
  induction j with
  | zero => intro k h; omega
  | succ j ih =>
  intro k hj hk
  refine xw_iload_n (pc := 4) dX1_deepest_4 0 rfl ?_
  refine xw_aload_n (pc := 5) dX1_deepest_5 2 rfl ?_
  refine xw_getS (b := p) (pc := 6) fd_X1_10 dX1_deepest_6 (by first | assumption | (simp [-List.getD_eq_getElem?_getD, xE_setI, xsz_setI, xsl_setI, xtag_setI, xown_setI, xlen_setI, xE_setR, xsz_setR, xsl_setR, xtag_setR, xown_setR, xlen_setR, xE_setW, xsz_setW, xsl_setW, xtag_setW, xown_setW, xlen_setW, xi_setR, xi_setW, xr_setI, xr_setW, xww_setI, xww_setR, xi_setI, xr_setR, xww_setW, xE_new, xsz_new, xsl_new, hM.tx, hM.xp, hM.l3, tpp, fp1, xsub]; done) | (simp [-List.getD_eq_getElem?_getD, xE_setI, xsz_setI, xsl_setI, xtag_setI, xown_setI, xlen_setI, xE_setR, xsz_setR, xsl_setR, xtag_setR, xown_setR, xlen_setR, xE_setW, xsz_setW, xsl_setW, xtag_setW, xown_setW, xlen_setW, xi_setR, xi_setW, xr_setI, xr_setW, xww_setI, xww_setR, xi_setI, xr_setR, xww_setW, xE_new, xsz_new, xsl_new, hM.tx, hM.xp, hM.l3, tpp, fp1] <;> rfl)) (by simp [-List.getD_eq_getElem?_getD, xE_setI, xsz_setI, xsl_setI, xtag_setI, xown_setI, xlen_setI, xE_setR, xsz_setR, xsl_setR, xtag_setR, xown_setR, xlen_setR, xE_setW, xsz_setW, xsl_setW, xtag_setW, xown_setW, xlen_setW, xi_setR, xi_setW, xr_setI, xr_setW, xww_setI, xww_setR, xi_setI, xr_setR, xww_setW, xE_new, xsz_new, xsl_new, hM.tx, hM.xp, hM.l3, tpp, fp1]) ?_
  refine xw_getS (b := (aL Z 2)) (pc := 9) fd_X1_240 dX1_deepest_9 (by first | assumption | (simp [-List.getD_eq_getElem?_getD, xE_setI, xsz_setI, xsl_setI, xtag_setI, xown_setI, xlen_setI, xE_setR, xsz_setR, xsl_setR, xtag_setR, xown_setR, xlen_setR, xE_setW, xsz_setW, xsl_setW, xtag_setW, xown_setW, xlen_setW, xi_setR, xi_setW, xr_setI, xr_setW, xww_setI, xww_setR, xi_setI, xr_setR, xww_setW, xE_new, xsz_new, xsl_new, hM.tx, hM.xp, hM.l3, tpp, fp1, xsub]; done) | (simp [-List.getD_eq_getElem?_getD, xE_setI, xsz_setI, xsl_setI, xtag_setI, xown_setI, xlen_setI, xE_setR, xsz_setR, xsl_setR, xtag_setR, xown_setR, xlen_setR, xE_setW, xsz_setW, xsl_setW, xtag_setW, xown_setW, xlen_setW, xi_setR, xi_setW, xr_setI, xr_setW, xww_setI, xww_setR, xi_setI, xr_setR, xww_setW, xE_new, xsz_new, xsl_new, hM.tx, hM.xp, hM.l3, tpp, fp1] <;> rfl)) (by simp [-List.getD_eq_getElem?_getD, xE_setI, xsz_setI, xsl_setI, xtag_setI, xown_setI, xlen_setI, xE_setR, xsz_setR, xsl_setR, xtag_setR, xown_setR, xlen_setR, xE_setW, xsz_setW, xsl_setW, xtag_setW, xown_setW, xlen_setW, xi_setR, xi_setW, xr_setI, xr_setW, xww_setI, xww_setR, xi_setI, xr_setR, xww_setW, xE_new, xsz_new, xsl_new, hM.tx, hM.xp, hM.l3, tpp, fp1]) ?_
  refine xw_callV (pc := 12) (xr_V (as := []) ok_J2_size rfl (by decide) q701 q702 q703 (by rw [hM.P.l1.1]; rfl) (by rw [hM.P.l1.1]; rfl) dX1_deepest_12 rfl rfl (Nat.le_of_ble_eq_true rfl)) (SP_J2_size hM.P.l1) ?_
  refine xw_icmp_ge (pc := 15) 46 dX1_deepest_15 rfl (fun hb15 => ?_) (fun hb15 => ?_)
  · replace hb15 : (aR Z).length ≤ k := (nI_leI (a := (aR Z).length) (b := k) (by omega) (by omega)).mp hb15
    refine xw_iload_n (pc := 46) dX1_deepest_46 1 rfl ?_
    refine xw_iret (pc := 47) .int dX1_deepest_47 rfl ?_ 
    have e : k = rr := by omega
    rw [e]
    exact ⟨rfl, rfl⟩
  · replace hb15 : ¬ ((aR Z).length ≤ k) := mt (nI_leI (a := (aR Z).length) (b := k) (by omega) (by omega)).mpr hb15
    have hkr : k < rr := by omega
    refine xw_iload_n (pc := 18) dX1_deepest_18 1 rfl ?_
    refine xw_aload_n (pc := 19) dX1_deepest_19 2 rfl ?_
    refine xw_getS (b := p) (pc := 20) fd_X1_10 dX1_deepest_20 (by first | assumption | (simp [-List.getD_eq_getElem?_getD, xE_setI, xsz_setI, xsl_setI, xtag_setI, xown_setI, xlen_setI, xE_setR, xsz_setR, xsl_setR, xtag_setR, xown_setR, xlen_setR, xE_setW, xsz_setW, xsl_setW, xtag_setW, xown_setW, xlen_setW, xi_setR, xi_setW, xr_setI, xr_setW, xww_setI, xww_setR, xi_setI, xr_setR, xww_setW, xE_new, xsz_new, xsl_new, hM.tx, hM.xp, hM.l3, tpp, fp1, xsub]; done) | (simp [-List.getD_eq_getElem?_getD, xE_setI, xsz_setI, xsl_setI, xtag_setI, xown_setI, xlen_setI, xE_setR, xsz_setR, xsl_setR, xtag_setR, xown_setR, xlen_setR, xE_setW, xsz_setW, xsl_setW, xtag_setW, xown_setW, xlen_setW, xi_setR, xi_setW, xr_setI, xr_setW, xww_setI, xww_setR, xi_setI, xr_setR, xww_setW, xE_new, xsz_new, xsl_new, hM.tx, hM.xp, hM.l3, tpp, fp1] <;> rfl)) (by simp [-List.getD_eq_getElem?_getD, xE_setI, xsz_setI, xsl_setI, xtag_setI, xown_setI, xlen_setI, xE_setR, xsz_setR, xsl_setR, xtag_setR, xown_setR, xlen_setR, xE_setW, xsz_setW, xsl_setW, xtag_setW, xown_setW, xlen_setW, xi_setR, xi_setW, xr_setI, xr_setW, xww_setI, xww_setR, xi_setI, xr_setR, xww_setW, xE_new, xsz_new, xsl_new, hM.tx, hM.xp, hM.l3, tpp, fp1]) ?_
    refine xw_getS (b := (aL Z 2)) (pc := 23) fd_X1_240 dX1_deepest_23 (by first | assumption | (simp [-List.getD_eq_getElem?_getD, xE_setI, xsz_setI, xsl_setI, xtag_setI, xown_setI, xlen_setI, xE_setR, xsz_setR, xsl_setR, xtag_setR, xown_setR, xlen_setR, xE_setW, xsz_setW, xsl_setW, xtag_setW, xown_setW, xlen_setW, xi_setR, xi_setW, xr_setI, xr_setW, xww_setI, xww_setR, xi_setI, xr_setR, xww_setW, xE_new, xsz_new, xsl_new, hM.tx, hM.xp, hM.l3, tpp, fp1, xsub]; done) | (simp [-List.getD_eq_getElem?_getD, xE_setI, xsz_setI, xsl_setI, xtag_setI, xown_setI, xlen_setI, xE_setR, xsz_setR, xsl_setR, xtag_setR, xown_setR, xlen_setR, xE_setW, xsz_setW, xsl_setW, xtag_setW, xown_setW, xlen_setW, xi_setR, xi_setW, xr_setI, xr_setW, xww_setI, xww_setR, xi_setI, xr_setR, xww_setW, xE_new, xsz_new, xsl_new, hM.tx, hM.xp, hM.l3, tpp, fp1] <;> rfl)) (by simp [-List.getD_eq_getElem?_getD, xE_setI, xsz_setI, xsl_setI, xtag_setI, xown_setI, xlen_setI, xE_setR, xsz_setR, xsl_setR, xtag_setR, xown_setR, xlen_setR, xE_setW, xsz_setW, xsl_setW, xtag_setW, xown_setW, xlen_setW, xi_setR, xi_setW, xr_setI, xr_setW, xww_setI, xww_setR, xi_setI, xr_setR, xww_setW, xE_new, xsz_new, xsl_new, hM.tx, hM.xp, hM.l3, tpp, fp1]) ?_
    refine xw_iload_n (pc := 26) dX1_deepest_26 0 rfl ?_
    refine xw_callV (pc := 27) (xr_V (as := [_]) ok_J2_get rfl (by decide) q705 q706 q707 (by rw [hM.P.l1.1]; rfl) (by rw [hM.P.l1.1]; rfl) dX1_deepest_27 rfl rfl (Nat.le_of_ble_eq_true rfl)) (SP_J2_get hM.P.l1 k (by omega)) ?_
    refine xw_chkR (pc := 30) dX1_deepest_30 q2074 (by exact (hM.P.ru hkr).1) ?_
    refine xw_rdepth (pc := 33) ((hM.P.ru hkr).1) dX1_deepest_33 q1480 (Nat.le_of_ble_eq_true rfl) ?_
    rw [(hM.P.ru hkr).2.2.2.2.2.2.2.2.2.2.2.1]
    refine xw_mmax (pc := 36) dX1_deepest_36 q2197 q106 (Nat.le_of_ble_eq_true rfl) ?_
    refine xw_istore_n (l' := [(1, _), (2, _), (0, _)]) (pc := 39) dX1_deepest_39 rfl (by decide) rfl ?_
    refine xw_iinc (v := nI (k + 1)) (l' := [(2, _), (1, _), (0, _)]) (pc := 40) dX1_deepest_40 1 rfl (nI_add _ 1) (by decide) rfl ?_
    refine xw_goto (pc := 43) 4 dX1_deepest_43 rfl ?_
    exact ih (k + 1) (by omega) (by omega)
theorem SP_X1_deepest {d : Nat} {g : xG} {x p lk fa ka la n rr ww : Nat} {Z : xAd} {S : xMS} (hM : xMn g x p lk fa ka la Z S n rr ww) : XM M_X1_deepest (d + 79) [.ref x] g (xOne (some (.int (maxD (S 1) rr))) g) := by
  refine xm_of (by decide +kernel) (Nat.le_of_ble_eq_true rfl) ?_
  show XW _ _ 0 [(0, _)] [] _ _
  refine xw_iconst (v := -1) (pc := 0) dX1_deepest_0 (by decide +kernel) ?_
  refine xw_istore_n (l' := [(1, _), (0, _)]) (pc := 1) dX1_deepest_1 rfl (by decide) rfl ?_
  refine xw_iconst (v := nI 0) (pc := 2) dX1_deepest_2 rfl ?_
  refine xw_istore_n (l' := [(2, _), (1, _), (0, _)]) (pc := 3) dX1_deepest_3 rfl (by decide) rfl ?_
  exact lp_X1_deepest hM (rr + 1) 0 (by omega) (by omega)

/-- the rows of floats: rw, what they hold -/
def xRwQ (g : xG) (rw : Nat) (s10 s11 : Nat → Int32) : Prop := xtag g rw = 114 ∧ xown g rw = 16 ∧ xlen g rw = 3 ∧ ∀ r, r < 3 → (s11 r = -1 ∧ xr g rw r = none) ∨ ∃ a m, xr g rw r = some a ∧ s11 r = nI m ∧ m ≤ 12 ∧ xtag g a = 105 ∧ xown g a = 10 ∧ xlen g a = m ∧ ∀ j, j < m → xi g a j = s10 (12 * r + j) ∧ fOK (s10 (12 * r + j))
def kpQ (s11 : Nat → Int32) (k : Nat) : Bool := decide (0 ≤ s11 k)
theorem kpQ_f {s : Nat → Int32} {k : Nat} (h : s k = -1) : kpQ s k = false := by unfold kpQ; rw [h]; decide
theorem kpQ_t {s : Nat → Int32} {k m : Nat} (h : s k = nI m) (hm : m < 2 ^ 31) : kpQ s k = true := by unfold kpQ; rw [h]; exact decide_eq_true (Int32.not_lt.mp (nI_pos hm))
theorem lp_X1_keptRows {d : Nat} {g : xG} {x rw0 : Nat} {s10 s11 : Nat → Int32} (hR : xRwQ g rw0 s10 s11) : ∀ (j k : Nat), 3 - k < j → k ≤ 3 → XW M_X1_keptRows d 13 [(4, .int (nI k)), (3, .int (nI 3)), (2, .ref rw0), (1, .int (nI (cntB (kpQ s11) k))), (0, .ref x)] [] g (xOne (some (.int (nI (cntB (kpQ s11) 3)))) g) := by
  obtain ⟨s1, s2, s3, s4⟩ := hR
  intro j
  induction j with
  | zero => intro k h; omega
  | succ j ih =>
  intro k hj hk
  have ck := cntB_le (kpQ s11) k
  by_cases h9 : k < 3
  · rcases s4 k h9 with ⟨q1, q2⟩ | ⟨b0, m, q1, q2, q3, -⟩
    · have hos := kpQ_f q1
      refine xw_iload (pc := 13) dX1_keptRows_13 0 rfl ?_
      refine xw_iload_n (pc := 15) dX1_keptRows_15 1 rfl ?_
      refine xw_icmp_ge (pc := 16) 44 dX1_keptRows_16 rfl (fun hb16 => ?_) (fun hb16 => ?_)
      · exfalso
        replace hb16 : 3 ≤ k := (nI_leI (a := 3) (b := k) (by omega) (by omega)).mp hb16
        omega
      replace hb16 : ¬ (3 ≤ k) := mt (nI_leI (a := 3) (b := k) (by omega) (by omega)).mpr hb16
      refine xw_aload_n (pc := 19) dX1_keptRows_19 2 rfl ?_
      refine xw_iload (pc := 20) dX1_keptRows_20 0 rfl ?_
      refine xw_aald (q := 13) (k := k) (pc := 22) dX1_keptRows_22 (by simp [-List.getD_eq_getElem?_getD, xE_setI, xsz_setI, xsl_setI, xtag_setI, xown_setI, xlen_setI, xE_setR, xsz_setR, xsl_setR, xtag_setR, xown_setR, xlen_setR, xE_setW, xsz_setW, xsl_setW, xtag_setW, xown_setW, xlen_setW, xi_setR, xi_setW, xr_setI, xr_setW, xww_setI, xww_setR, xi_setI, xr_setR, xww_setW, xE_new, xsz_new, xsl_new, s1]) (by first | decide | omega) (by first | decide | omega) rfl (by rw [s3]; omega) ?_
      rw [q2]
      refine xw_astore (l' := [(5, _), (4, _), (3, _), (2, _), (1, _), (0, _)]) (pc := 23) dX1_keptRows_23 (by decide) rfl ?_
      refine xw_iload_n (pc := 25) dX1_keptRows_25 4 rfl ?_
      refine xw_aload (pc := 26) dX1_keptRows_26 0 rfl ?_
      refine xw_ifnonnullN (pc := 28) dX1_keptRows_28 ?_
      refine xw_iconst (v := nI 0) (pc := 31) dX1_keptRows_31 rfl ?_
      refine xw_goto (pc := 32) 36 dX1_keptRows_32 rfl ?_
      refine xn_iadd (pc := 36) dX1_keptRows_36 ?_
      refine xw_istore_n (l' := [(1, _), (5, _), (4, _), (3, _), (2, _), (0, _)]) (pc := 37) dX1_keptRows_37 rfl (by decide) rfl ?_
      refine xw_iinc (v := nI (k + 1)) (l' := [(4, _), (1, _), (5, _), (3, _), (2, _), (0, _)]) (pc := 38) dX1_keptRows_38 2 rfl (nI_add _ 1) (by decide) rfl ?_
      refine xw_goto (pc := 41) 13 dX1_keptRows_41 rfl ?_
      refine xw_pick (pc := 13) (l' := [(4, _), (3, _), (2, _), (1, _), (0, _)]) [0, 3, 4, 1, 5] rfl ?_
      rw [show cntB (kpQ s11) k + 0 = cntB (kpQ s11) (k + 1) from (cntB_f hos).symm]
      exact ih (k + 1) (by omega) (by omega)
    · have hos := kpQ_t q2 (by omega)
      refine xw_iload (pc := 13) dX1_keptRows_13 0 rfl ?_
      refine xw_iload_n (pc := 15) dX1_keptRows_15 1 rfl ?_
      refine xw_icmp_ge (pc := 16) 44 dX1_keptRows_16 rfl (fun hb16 => ?_) (fun hb16 => ?_)
      · exfalso
        replace hb16 : 3 ≤ k := (nI_leI (a := 3) (b := k) (by omega) (by omega)).mp hb16
        omega
      replace hb16 : ¬ (3 ≤ k) := mt (nI_leI (a := 3) (b := k) (by omega) (by omega)).mpr hb16
      refine xw_aload_n (pc := 19) dX1_keptRows_19 2 rfl ?_
      refine xw_iload (pc := 20) dX1_keptRows_20 0 rfl ?_
      refine xw_aald (q := 13) (k := k) (pc := 22) dX1_keptRows_22 (by simp [-List.getD_eq_getElem?_getD, xE_setI, xsz_setI, xsl_setI, xtag_setI, xown_setI, xlen_setI, xE_setR, xsz_setR, xsl_setR, xtag_setR, xown_setR, xlen_setR, xE_setW, xsz_setW, xsl_setW, xtag_setW, xown_setW, xlen_setW, xi_setR, xi_setW, xr_setI, xr_setW, xww_setI, xww_setR, xi_setI, xr_setR, xww_setW, xE_new, xsz_new, xsl_new, s1]) (by first | decide | omega) (by first | decide | omega) rfl (by rw [s3]; omega) ?_
      rw [show xr g rw0 k = some b0 from by exact q1]
      refine xw_astore (l' := [(5, _), (4, _), (3, _), (2, _), (1, _), (0, _)]) (pc := 23) dX1_keptRows_23 (by decide) rfl ?_
      refine xw_iload_n (pc := 25) dX1_keptRows_25 4 rfl ?_
      refine xw_aload (pc := 26) dX1_keptRows_26 0 rfl ?_
      refine xw_ifnonnull (pc := 28) 35 dX1_keptRows_28 rfl ?_
      refine xw_iconst (v := nI 1) (pc := 35) dX1_keptRows_35 rfl ?_
      refine xn_iadd (pc := 36) dX1_keptRows_36 ?_
      refine xw_istore_n (l' := [(1, _), (5, _), (4, _), (3, _), (2, _), (0, _)]) (pc := 37) dX1_keptRows_37 rfl (by decide) rfl ?_
      refine xw_iinc (v := nI (k + 1)) (l' := [(4, _), (1, _), (5, _), (3, _), (2, _), (0, _)]) (pc := 38) dX1_keptRows_38 2 rfl (nI_add _ 1) (by decide) rfl ?_
      refine xw_goto (pc := 41) 13 dX1_keptRows_41 rfl ?_
      refine xw_pick (pc := 13) (l' := [(4, _), (3, _), (2, _), (1, _), (0, _)]) [0, 3, 4, 1, 5] rfl ?_
      rw [show cntB (kpQ s11) k + 1 = cntB (kpQ s11) (k + 1) from (cntB_t hos).symm]
      exact ih (k + 1) (by omega) (by omega)
  · have ek : k = 3 := by omega
    subst ek
    refine xw_iload (pc := 13) dX1_keptRows_13 0 rfl ?_
    refine xw_iload_n (pc := 15) dX1_keptRows_15 1 rfl ?_
    refine xw_icmp_ge (pc := 16) 44 dX1_keptRows_16 rfl (fun _ => ?_) (fun hb => absurd hb (by decide))
    refine xw_iload_n (pc := 44) dX1_keptRows_44 3 rfl ?_
    refine xw_iret (pc := 45) .int dX1_keptRows_45 rfl ?_ 
    exact ⟨rfl, rfl⟩
theorem SP_X1_keptRows {d : Nat} {g : xG} {x rw0 : Nat} {s10 s11 : Nat → Int32} (hR : xRwQ g rw0 s10 s11) (hx : xtag g x = 1) (h7 : xr g x 7 = some rw0) : XM M_X1_keptRows d [.ref x] g (xOne (some (.int (nI (cntB (kpQ s11) 3)))) g) := by
  have hR0 := hR
  obtain ⟨s1, s2, s3, s4⟩ := hR
  refine xm_of (by decide +kernel) (Nat.le_of_ble_eq_true rfl) ?_
  show XW _ _ 0 [(0, _)] [] _ _
  refine xw_iconst (v := nI 0) (pc := 0) dX1_keptRows_0 rfl ?_
  refine xw_istore_n (l' := [(1, _), (0, _)]) (pc := 1) dX1_keptRows_1 rfl (by decide) rfl ?_
  refine xw_aload_n (pc := 2) dX1_keptRows_2 1 rfl ?_
  refine xw_getS (b := rw0) (pc := 3) fd_X1_40 dX1_keptRows_3 (by first | assumption | (simp [-List.getD_eq_getElem?_getD, xE_setI, xsz_setI, xsl_setI, xtag_setI, xown_setI, xlen_setI, xE_setR, xsz_setR, xsl_setR, xtag_setR, xown_setR, xlen_setR, xE_setW, xsz_setW, xsl_setW, xtag_setW, xown_setW, xlen_setW, xi_setR, xi_setW, xr_setI, xr_setW, xww_setI, xww_setR, xi_setI, xr_setR, xww_setW, xE_new, xsz_new, xsl_new, hx, h7, s1, s3, xsub]; done) | (simp [-List.getD_eq_getElem?_getD, xE_setI, xsz_setI, xsl_setI, xtag_setI, xown_setI, xlen_setI, xE_setR, xsz_setR, xsl_setR, xtag_setR, xown_setR, xlen_setR, xE_setW, xsz_setW, xsl_setW, xtag_setW, xown_setW, xlen_setW, xi_setR, xi_setW, xr_setI, xr_setW, xww_setI, xww_setR, xi_setI, xr_setR, xww_setW, xE_new, xsz_new, xsl_new, hx, h7, s1, s3] <;> rfl)) (by simp [-List.getD_eq_getElem?_getD, xE_setI, xsz_setI, xsl_setI, xtag_setI, xown_setI, xlen_setI, xE_setR, xsz_setR, xsl_setR, xtag_setR, xown_setR, xlen_setR, xE_setW, xsz_setW, xsl_setW, xtag_setW, xown_setW, xlen_setW, xi_setR, xi_setW, xr_setI, xr_setW, xww_setI, xww_setR, xi_setI, xr_setR, xww_setW, xE_new, xsz_new, xsl_new, hx, h7, s1, s3]) ?_
  refine xw_astore_n (l' := [(2, _), (1, _), (0, _)]) (pc := 6) dX1_keptRows_6 rfl (by decide) rfl ?_
  refine xw_aload_n (pc := 7) dX1_keptRows_7 0 rfl ?_
  refine xw_alen (q := 13) (pc := 8) dX1_keptRows_8 (by simp [-List.getD_eq_getElem?_getD, xE_setI, xsz_setI, xsl_setI, xtag_setI, xown_setI, xlen_setI, xE_setR, xsz_setR, xsl_setR, xtag_setR, xown_setR, xlen_setR, xE_setW, xsz_setW, xsl_setW, xtag_setW, xown_setW, xlen_setW, xi_setR, xi_setW, xr_setI, xr_setW, xww_setI, xww_setR, xi_setI, xr_setR, xww_setW, xE_new, xsz_new, xsl_new, hx, h7, s1, s3]) (by first | decide | omega) ?_
  rw [show xlen _ rw0 = 3 from by simp [-List.getD_eq_getElem?_getD, xE_setI, xsz_setI, xsl_setI, xtag_setI, xown_setI, xlen_setI, xE_setR, xsz_setR, xsl_setR, xtag_setR, xown_setR, xlen_setR, xE_setW, xsz_setW, xsl_setW, xtag_setW, xown_setW, xlen_setW, xi_setR, xi_setW, xr_setI, xr_setW, xww_setI, xww_setR, xi_setI, xr_setR, xww_setW, xE_new, xsz_new, xsl_new, hx, h7, s1, s3]]
  refine xw_istore_n (l' := [(3, _), (2, _), (1, _), (0, _)]) (pc := 9) dX1_keptRows_9 rfl (by decide) rfl ?_
  refine xw_iconst (v := nI 0) (pc := 10) dX1_keptRows_10 rfl ?_
  refine xw_istore (l' := [(4, _), (3, _), (2, _), (1, _), (0, _)]) (pc := 11) dX1_keptRows_11 (by decide) rfl ?_
  exact lp_X1_keptRows hR0 4 0 (by omega) (by omega)

