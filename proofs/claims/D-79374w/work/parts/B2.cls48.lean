/-! CLASS 48: accounts -/
set_option maxRecDepth 100000
theorem SP_X1_account_F {d : Nat} {g : xG} {x : Nat} {v : Int32} (hv : ¬ inR v (nI 0) (nI 10) = true) : XM M_X1_account (d + 80) [.ref x, .int v] g (xThr (xsz g) (xExc g 22)) := by
  refine xm_of (by decide +kernel) (Nat.le_of_ble_eq_true rfl) ?_
  show XW _ _ 0 [(0, _), (1, _)] [] _ _
  refine xw_iload_n (pc := 0) dX1_account_0 1 rfl ?_
  refine xw_iconst (v := nI 0) (pc := 1) dX1_account_1 rfl ?_
  refine xw_bipush (v := nI 10) (pc := 2) dX1_account_2 (by decide +kernel) ?_
  refine xw_callV (pc := 4) (xr_S (as := [_, _, _]) ok_X1_isIn rfl (by decide) q1180 q784 dX1_account_4 rfl rfl (Nat.le_of_ble_eq_true rfl)) (SP_X1_isInF hv) ?_
  refine xw_callX (pc := 7) (xr_S (as := [_]) ok_X1_check rfl (by decide) q1181 q1182 dX1_account_7 rfl rfl (Nat.le_of_ble_eq_true rfl)) (SP_X1_check_F) ?_
  exact xx_out0 rfl (by rw [xExc_tag]; decide) (by rw [xExc_tag]; decide) (by rw [xExc_own]; decide) ⟨rfl, rfl⟩

theorem SP_X1_account0 {d : Nat} {g : xG} {x p lk fa ka la n rr ww : Nat} {Z : xAd} {S : xMS} (hM : xMn g x p lk fa ka la Z S n rr ww) : XM M_X1_account (d + 80) [.ref x, .int (nI 0)] g (xOne (some (.int (S 1 0))) g) := by
  refine xm_of (by decide +kernel) (Nat.le_of_ble_eq_true rfl) ?_
  show XW _ _ 0 [(0, _), (1, _)] [] _ _
  refine xw_iload_n (pc := 0) dX1_account_0 1 rfl ?_
  refine xw_iconst (v := nI 0) (pc := 1) dX1_account_1 rfl ?_
  refine xw_bipush (v := nI 10) (pc := 2) dX1_account_2 (by decide +kernel) ?_
  refine xw_callV (pc := 4) (xr_S (as := [_, _, _]) ok_X1_isIn rfl (by decide) q1180 q784 dX1_account_4 rfl rfl (Nat.le_of_ble_eq_true rfl)) (SP_X1_isInT (by decide)) ?_
  refine xw_callU (pc := 7) (xr_S (as := [_]) ok_X1_check rfl (by decide) q1181 q1182 dX1_account_7 rfl rfl (Nat.le_of_ble_eq_true rfl)) (SP_X1_check_T) ?_
  refine xw_iload_n (pc := 10) dX1_account_10 1 rfl ?_
  refine xw_tableIn (x := nI 0) (pc := 11) 64 dX1_account_11 (by decide) (by decide) rfl rfl ?_
  refine xw_aload_n (pc := 64) dX1_account_64 0 rfl ?_
  refine xw_getS (b := p) (pc := 65) fd_X1_10 dX1_account_65 (by first | assumption | (simp [-List.getD_eq_getElem?_getD, xE_setI, xsz_setI, xsl_setI, xtag_setI, xown_setI, xlen_setI, xE_setR, xsz_setR, xsl_setR, xtag_setR, xown_setR, xlen_setR, xE_setW, xsz_setW, xsl_setW, xtag_setW, xown_setW, xlen_setW, xi_setR, xi_setW, xr_setI, xr_setW, xww_setI, xww_setR, xi_setI, xr_setR, xww_setW, xE_new, xsz_new, xsl_new, hM.tx, hM.xp, hM.l3, hM.P.tag, hM.P.f0, xsub]; done) | (simp [-List.getD_eq_getElem?_getD, xE_setI, xsz_setI, xsl_setI, xtag_setI, xown_setI, xlen_setI, xE_setR, xsz_setR, xsl_setR, xtag_setR, xown_setR, xlen_setR, xE_setW, xsz_setW, xsl_setW, xtag_setW, xown_setW, xlen_setW, xi_setR, xi_setW, xr_setI, xr_setW, xww_setI, xww_setR, xi_setI, xr_setR, xww_setW, xE_new, xsz_new, xsl_new, hM.tx, hM.xp, hM.l3, hM.P.tag, hM.P.f0] <;> rfl)) (by simp [-List.getD_eq_getElem?_getD, xE_setI, xsz_setI, xsl_setI, xtag_setI, xown_setI, xlen_setI, xE_setR, xsz_setR, xsl_setR, xtag_setR, xown_setR, xlen_setR, xE_setW, xsz_setW, xsl_setW, xtag_setW, xown_setW, xlen_setW, xi_setR, xi_setW, xr_setI, xr_setW, xww_setI, xww_setR, xi_setI, xr_setR, xww_setW, xE_new, xsz_new, xsl_new, hM.tx, hM.xp, hM.l3, hM.P.tag, hM.P.f0]) ?_
  refine xw_getS (b := (aL Z 0)) (pc := 68) fd_X1_164 dX1_account_68 (by first | assumption | (simp [-List.getD_eq_getElem?_getD, xE_setI, xsz_setI, xsl_setI, xtag_setI, xown_setI, xlen_setI, xE_setR, xsz_setR, xsl_setR, xtag_setR, xown_setR, xlen_setR, xE_setW, xsz_setW, xsl_setW, xtag_setW, xown_setW, xlen_setW, xi_setR, xi_setW, xr_setI, xr_setW, xww_setI, xww_setR, xi_setI, xr_setR, xww_setW, xE_new, xsz_new, xsl_new, hM.tx, hM.xp, hM.l3, hM.P.tag, hM.P.f0, xsub]; done) | (simp [-List.getD_eq_getElem?_getD, xE_setI, xsz_setI, xsl_setI, xtag_setI, xown_setI, xlen_setI, xE_setR, xsz_setR, xsl_setR, xtag_setR, xown_setR, xlen_setR, xE_setW, xsz_setW, xsl_setW, xtag_setW, xown_setW, xlen_setW, xi_setR, xi_setW, xr_setI, xr_setW, xww_setI, xww_setR, xi_setI, xr_setR, xww_setW, xE_new, xsz_new, xsl_new, hM.tx, hM.xp, hM.l3, hM.P.tag, hM.P.f0] <;> rfl)) (by simp [-List.getD_eq_getElem?_getD, xE_setI, xsz_setI, xsl_setI, xtag_setI, xown_setI, xlen_setI, xE_setR, xsz_setR, xsl_setR, xtag_setR, xown_setR, xlen_setR, xE_setW, xsz_setW, xsl_setW, xtag_setW, xown_setW, xlen_setW, xi_setR, xi_setW, xr_setI, xr_setW, xww_setI, xww_setR, xi_setI, xr_setR, xww_setW, xE_new, xsz_new, xsl_new, hM.tx, hM.xp, hM.l3, hM.P.tag, hM.P.f0]) ?_
  refine xw_callV (pc := 71) (xr_V (as := []) ok_J2_size rfl (by decide) q701 q702 q703 (by rw [hM.P.l0.1]; rfl) (by rw [hM.P.l0.1]; rfl) dX1_account_71 rfl rfl (Nat.le_of_ble_eq_true rfl)) (SP_J2_size hM.P.l0) ?_
  refine xw_goto (pc := 74) 184 dX1_account_74 rfl ?_
  refine xw_iret (pc := 184) .int dX1_account_184 rfl ?_ 
  rw [hM.P.lc, ← hM.P.wf.s0]
  exact ⟨rfl, rfl⟩

theorem SP_X1_account1 {d : Nat} {g : xG} {x p lk fa ka la n rr ww : Nat} {Z : xAd} {S : xMS} (hM : xMn g x p lk fa ka la Z S n rr ww) : XM M_X1_account (d + 80) [.ref x, .int (nI 1)] g (xOne (some (.int (S 1 1))) g) := by
  refine xm_of (by decide +kernel) (Nat.le_of_ble_eq_true rfl) ?_
  show XW _ _ 0 [(0, _), (1, _)] [] _ _
  refine xw_iload_n (pc := 0) dX1_account_0 1 rfl ?_
  refine xw_iconst (v := nI 0) (pc := 1) dX1_account_1 rfl ?_
  refine xw_bipush (v := nI 10) (pc := 2) dX1_account_2 (by decide +kernel) ?_
  refine xw_callV (pc := 4) (xr_S (as := [_, _, _]) ok_X1_isIn rfl (by decide) q1180 q784 dX1_account_4 rfl rfl (Nat.le_of_ble_eq_true rfl)) (SP_X1_isInT (by decide)) ?_
  refine xw_callU (pc := 7) (xr_S (as := [_]) ok_X1_check rfl (by decide) q1181 q1182 dX1_account_7 rfl rfl (Nat.le_of_ble_eq_true rfl)) (SP_X1_check_T) ?_
  refine xw_iload_n (pc := 10) dX1_account_10 1 rfl ?_
  refine xw_tableIn (x := nI 1) (pc := 11) 77 dX1_account_11 (by decide) (by decide) rfl rfl ?_
  refine xw_aload_n (pc := 77) dX1_account_77 0 rfl ?_
  refine xw_getS (b := p) (pc := 78) fd_X1_10 dX1_account_78 (by first | assumption | (simp [-List.getD_eq_getElem?_getD, xE_setI, xsz_setI, xsl_setI, xtag_setI, xown_setI, xlen_setI, xE_setR, xsz_setR, xsl_setR, xtag_setR, xown_setR, xlen_setR, xE_setW, xsz_setW, xsl_setW, xtag_setW, xown_setW, xlen_setW, xi_setR, xi_setW, xr_setI, xr_setW, xww_setI, xww_setR, xi_setI, xr_setR, xww_setW, xE_new, xsz_new, xsl_new, hM.tx, hM.xp, hM.l3, hM.P.tag, hM.P.f1, xsub]; done) | (simp [-List.getD_eq_getElem?_getD, xE_setI, xsz_setI, xsl_setI, xtag_setI, xown_setI, xlen_setI, xE_setR, xsz_setR, xsl_setR, xtag_setR, xown_setR, xlen_setR, xE_setW, xsz_setW, xsl_setW, xtag_setW, xown_setW, xlen_setW, xi_setR, xi_setW, xr_setI, xr_setW, xww_setI, xww_setR, xi_setI, xr_setR, xww_setW, xE_new, xsz_new, xsl_new, hM.tx, hM.xp, hM.l3, hM.P.tag, hM.P.f1] <;> rfl)) (by simp [-List.getD_eq_getElem?_getD, xE_setI, xsz_setI, xsl_setI, xtag_setI, xown_setI, xlen_setI, xE_setR, xsz_setR, xsl_setR, xtag_setR, xown_setR, xlen_setR, xE_setW, xsz_setW, xsl_setW, xtag_setW, xown_setW, xlen_setW, xi_setR, xi_setW, xr_setI, xr_setW, xww_setI, xww_setR, xi_setI, xr_setR, xww_setW, xE_new, xsz_new, xsl_new, hM.tx, hM.xp, hM.l3, hM.P.tag, hM.P.f1]) ?_
  refine xw_getS (b := (aL Z 2)) (pc := 81) fd_X1_240 dX1_account_81 (by first | assumption | (simp [-List.getD_eq_getElem?_getD, xE_setI, xsz_setI, xsl_setI, xtag_setI, xown_setI, xlen_setI, xE_setR, xsz_setR, xsl_setR, xtag_setR, xown_setR, xlen_setR, xE_setW, xsz_setW, xsl_setW, xtag_setW, xown_setW, xlen_setW, xi_setR, xi_setW, xr_setI, xr_setW, xww_setI, xww_setR, xi_setI, xr_setR, xww_setW, xE_new, xsz_new, xsl_new, hM.tx, hM.xp, hM.l3, hM.P.tag, hM.P.f1, xsub]; done) | (simp [-List.getD_eq_getElem?_getD, xE_setI, xsz_setI, xsl_setI, xtag_setI, xown_setI, xlen_setI, xE_setR, xsz_setR, xsl_setR, xtag_setR, xown_setR, xlen_setR, xE_setW, xsz_setW, xsl_setW, xtag_setW, xown_setW, xlen_setW, xi_setR, xi_setW, xr_setI, xr_setW, xww_setI, xww_setR, xi_setI, xr_setR, xww_setW, xE_new, xsz_new, xsl_new, hM.tx, hM.xp, hM.l3, hM.P.tag, hM.P.f1] <;> rfl)) (by simp [-List.getD_eq_getElem?_getD, xE_setI, xsz_setI, xsl_setI, xtag_setI, xown_setI, xlen_setI, xE_setR, xsz_setR, xsl_setR, xtag_setR, xown_setR, xlen_setR, xE_setW, xsz_setW, xsl_setW, xtag_setW, xown_setW, xlen_setW, xi_setR, xi_setW, xr_setI, xr_setW, xww_setI, xww_setR, xi_setI, xr_setR, xww_setW, xE_new, xsz_new, xsl_new, hM.tx, hM.xp, hM.l3, hM.P.tag, hM.P.f1]) ?_
  refine xw_callV (pc := 84) (xr_V (as := []) ok_J2_size rfl (by decide) q701 q702 q703 (by rw [hM.P.l1.1]; rfl) (by rw [hM.P.l1.1]; rfl) dX1_account_84 rfl rfl (Nat.le_of_ble_eq_true rfl)) (SP_J2_size hM.P.l1) ?_
  refine xw_goto (pc := 87) 184 dX1_account_87 rfl ?_
  refine xw_iret (pc := 184) .int dX1_account_184 rfl ?_ 
  rw [hM.P.lr, ← hM.P.wf.s1]
  exact ⟨rfl, rfl⟩

theorem SP_X1_account5 {d : Nat} {g : xG} {x p lk fa ka la n rr ww : Nat} {Z : xAd} {S : xMS} (hM : xMn g x p lk fa ka la Z S n rr ww) : XM M_X1_account (d + 80) [.ref x, .int (nI 5)] g (xOne (some (.int (S 1 2))) g) := by
  refine xm_of (by decide +kernel) (Nat.le_of_ble_eq_true rfl) ?_
  show XW _ _ 0 [(0, _), (1, _)] [] _ _
  refine xw_iload_n (pc := 0) dX1_account_0 1 rfl ?_
  refine xw_iconst (v := nI 0) (pc := 1) dX1_account_1 rfl ?_
  refine xw_bipush (v := nI 10) (pc := 2) dX1_account_2 (by decide +kernel) ?_
  refine xw_callV (pc := 4) (xr_S (as := [_, _, _]) ok_X1_isIn rfl (by decide) q1180 q784 dX1_account_4 rfl rfl (Nat.le_of_ble_eq_true rfl)) (SP_X1_isInT (by decide)) ?_
  refine xw_callU (pc := 7) (xr_S (as := [_]) ok_X1_check rfl (by decide) q1181 q1182 dX1_account_7 rfl rfl (Nat.le_of_ble_eq_true rfl)) (SP_X1_check_T) ?_
  refine xw_iload_n (pc := 10) dX1_account_10 1 rfl ?_
  refine xw_tableIn (x := nI 5) (pc := 11) 127 dX1_account_11 (by decide) (by decide) rfl rfl ?_
  refine xw_aload_n (pc := 127) dX1_account_127 0 rfl ?_
  refine xw_getS (b := p) (pc := 128) fd_X1_10 dX1_account_128 (by first | assumption | (simp [-List.getD_eq_getElem?_getD, xE_setI, xsz_setI, xsl_setI, xtag_setI, xown_setI, xlen_setI, xE_setR, xsz_setR, xsl_setR, xtag_setR, xown_setR, xlen_setR, xE_setW, xsz_setW, xsl_setW, xtag_setW, xown_setW, xlen_setW, xi_setR, xi_setW, xr_setI, xr_setW, xww_setI, xww_setR, xi_setI, xr_setR, xww_setW, xE_new, xsz_new, xsl_new, hM.tx, hM.xp, hM.l3, hM.P.tag, hM.P.f2, xsub]; done) | (simp [-List.getD_eq_getElem?_getD, xE_setI, xsz_setI, xsl_setI, xtag_setI, xown_setI, xlen_setI, xE_setR, xsz_setR, xsl_setR, xtag_setR, xown_setR, xlen_setR, xE_setW, xsz_setW, xsl_setW, xtag_setW, xown_setW, xlen_setW, xi_setR, xi_setW, xr_setI, xr_setW, xww_setI, xww_setR, xi_setI, xr_setR, xww_setW, xE_new, xsz_new, xsl_new, hM.tx, hM.xp, hM.l3, hM.P.tag, hM.P.f2] <;> rfl)) (by simp [-List.getD_eq_getElem?_getD, xE_setI, xsz_setI, xsl_setI, xtag_setI, xown_setI, xlen_setI, xE_setR, xsz_setR, xsl_setR, xtag_setR, xown_setR, xlen_setR, xE_setW, xsz_setW, xsl_setW, xtag_setW, xown_setW, xlen_setW, xi_setR, xi_setW, xr_setI, xr_setW, xww_setI, xww_setR, xi_setI, xr_setR, xww_setW, xE_new, xsz_new, xsl_new, hM.tx, hM.xp, hM.l3, hM.P.tag, hM.P.f2]) ?_
  refine xw_getS (b := (aL Z 4)) (pc := 131) fd_X1_374 dX1_account_131 (by first | assumption | (simp [-List.getD_eq_getElem?_getD, xE_setI, xsz_setI, xsl_setI, xtag_setI, xown_setI, xlen_setI, xE_setR, xsz_setR, xsl_setR, xtag_setR, xown_setR, xlen_setR, xE_setW, xsz_setW, xsl_setW, xtag_setW, xown_setW, xlen_setW, xi_setR, xi_setW, xr_setI, xr_setW, xww_setI, xww_setR, xi_setI, xr_setR, xww_setW, xE_new, xsz_new, xsl_new, hM.tx, hM.xp, hM.l3, hM.P.tag, hM.P.f2, xsub]; done) | (simp [-List.getD_eq_getElem?_getD, xE_setI, xsz_setI, xsl_setI, xtag_setI, xown_setI, xlen_setI, xE_setR, xsz_setR, xsl_setR, xtag_setR, xown_setR, xlen_setR, xE_setW, xsz_setW, xsl_setW, xtag_setW, xown_setW, xlen_setW, xi_setR, xi_setW, xr_setI, xr_setW, xww_setI, xww_setR, xi_setI, xr_setR, xww_setW, xE_new, xsz_new, xsl_new, hM.tx, hM.xp, hM.l3, hM.P.tag, hM.P.f2] <;> rfl)) (by simp [-List.getD_eq_getElem?_getD, xE_setI, xsz_setI, xsl_setI, xtag_setI, xown_setI, xlen_setI, xE_setR, xsz_setR, xsl_setR, xtag_setR, xown_setR, xlen_setR, xE_setW, xsz_setW, xsl_setW, xtag_setW, xown_setW, xlen_setW, xi_setR, xi_setW, xr_setI, xr_setW, xww_setI, xww_setR, xi_setI, xr_setR, xww_setW, xE_new, xsz_new, xsl_new, hM.tx, hM.xp, hM.l3, hM.P.tag, hM.P.f2]) ?_
  refine xw_callV (pc := 134) (xr_V (as := []) ok_J2_size rfl (by decide) q701 q702 q703 (by rw [hM.P.l2.1]; rfl) (by rw [hM.P.l2.1]; rfl) dX1_account_134 rfl rfl (Nat.le_of_ble_eq_true rfl)) (SP_J2_size hM.P.l2) ?_
  refine xw_goto (pc := 137) 184 dX1_account_137 rfl ?_
  refine xw_iret (pc := 184) .int dX1_account_184 rfl ?_ 
  rw [hM.P.lw, ← hM.P.wf.s2]
  exact ⟨rfl, rfl⟩

theorem SP_X1_account2 {d : Nat} {g : xG} {x p lk fa ka la n rr ww : Nat} {Z : xAd} {S : xMS} (hM : xMn g x p lk fa ka la Z S n rr ww) : XM M_X1_account (d + 80) [.ref x, .int (nI 2)] g (xVal (.int (nI (cntB (isMa (S 1)) rr))) (fun g' => xLb g' x lk fa ka la ∧ xFr (oEq 6) 2 g g')) := by
  have F1 : xFr oNo (0 + 2) g (xNew g (xLm 73 13 1 (fun _ => 0) (fun _ => some ((xE g).2.2.1 76))) 1) := (xFr.rf (O := oNo) (n := 0)).nw
  have hP1 : xPol (xNew g (xLm 73 13 1 (fun _ => 0) (fun _ => some ((xE g).2.2.1 76))) 1) p Z (S 1) n rr ww := hM.P.fr F1 (fun o _ h => h) (by unfold oNo; exact id)
  have hM1 : xMn (xNew g (xLm 73 13 1 (fun _ => 0) (fun _ => some ((xE g).2.2.1 76))) 1) x p lk fa ka la Z S n rr ww := hM.fr F1 (by unfold oKeep oNo; simp) hP1
  have hA : xAsk (xNew g (xLm 73 13 1 (fun _ => 0) (fun _ => some ((xE g).2.2.1 76))) 1) (d + 70 + 6) ((xE g).2.2.1 76) rr Z (isMa (S 1)) := xAsk_76 (d := d + 70) hP1
  refine xm_of (by decide +kernel) (Nat.le_of_ble_eq_true rfl) ?_
  show XW _ _ 0 [(0, _), (1, _)] [] _ _
  refine xw_iload_n (pc := 0) dX1_account_0 1 rfl ?_
  refine xw_iconst (v := nI 0) (pc := 1) dX1_account_1 rfl ?_
  refine xw_bipush (v := nI 10) (pc := 2) dX1_account_2 (by decide +kernel) ?_
  refine xw_callV (pc := 4) (xr_S (as := [_, _, _]) ok_X1_isIn rfl (by decide) q1180 q784 dX1_account_4 rfl rfl (Nat.le_of_ble_eq_true rfl)) (SP_X1_isInT (by decide)) ?_
  refine xw_callU (pc := 7) (xr_S (as := [_]) ok_X1_check rfl (by decide) q1181 q1182 dX1_account_7 rfl rfl (Nat.le_of_ble_eq_true rfl)) (SP_X1_check_T) ?_
  refine xw_iload_n (pc := 10) dX1_account_10 1 rfl ?_
  refine xw_tableIn (x := nI 2) (pc := 11) 90 dX1_account_11 (by decide) (by decide) rfl rfl ?_
  refine xw_aload_n (pc := 90) dX1_account_90 0 rfl ?_
  refine xw_getS (b := p) (pc := 91) fd_X1_10 dX1_account_91 (by first | assumption | (simp [-List.getD_eq_getElem?_getD, xE_setI, xsz_setI, xsl_setI, xtag_setI, xown_setI, xlen_setI, xE_setR, xsz_setR, xsl_setR, xtag_setR, xown_setR, xlen_setR, xE_setW, xsz_setW, xsl_setW, xtag_setW, xown_setW, xlen_setW, xi_setR, xi_setW, xr_setI, xr_setW, xww_setI, xww_setR, xi_setI, xr_setR, xww_setW, xE_new, xsz_new, xsl_new, hM.tx, hM.xp, hM.l3, xsub]; done) | (simp [-List.getD_eq_getElem?_getD, xE_setI, xsz_setI, xsl_setI, xtag_setI, xown_setI, xlen_setI, xE_setR, xsz_setR, xsl_setR, xtag_setR, xown_setR, xlen_setR, xE_setW, xsz_setW, xsl_setW, xtag_setW, xown_setW, xlen_setW, xi_setR, xi_setW, xr_setI, xr_setW, xww_setI, xww_setR, xi_setI, xr_setR, xww_setW, xE_new, xsz_new, xsl_new, hM.tx, hM.xp, hM.l3] <;> rfl)) (by simp [-List.getD_eq_getElem?_getD, xE_setI, xsz_setI, xsl_setI, xtag_setI, xown_setI, xlen_setI, xE_setR, xsz_setR, xsl_setR, xtag_setR, xown_setR, xlen_setR, xE_setW, xsz_setW, xsl_setW, xtag_setW, xown_setW, xlen_setW, xi_setR, xi_setW, xr_setI, xr_setW, xww_setI, xww_setR, xi_setI, xr_setR, xww_setW, xE_new, xsz_new, xsl_new, hM.tx, hM.xp, hM.l3]) ?_
  refine xw_lamC (pc := 94) (List.mem_of_getElem? (i := 5) rfl) (Or.inl rfl) dX1_account_94 (Nat.le_of_ble_eq_true rfl) ?_
  refine xw_callV (pc := 99) (xr_V (as := [_]) ok_X2_count rfl (by decide) q1226 q1227 q1228 (by rw [hM.P.tag]; rfl) (by rw [hM.P.tag]; rfl) dX1_account_99 rfl rfl (Nat.le_of_ble_eq_true rfl)) (SP_X2_count (d := d + 70) hM.P hA) ?_
  refine xw_goto (pc := 102) 184 dX1_account_102 rfl ?_
  refine xw_iret (pc := 184) .int dX1_account_184 rfl ?_ 
  exact ⟨rfl, hM1.B, F1.sub (fun _ h => h.elim) (by omega)⟩

theorem SP_X1_account3 {d : Nat} {g : xG} {x p lk fa ka la n rr ww : Nat} {Z : xAd} {S : xMS} (hM : xMn g x p lk fa ka la Z S n rr ww) : XM M_X1_account (d + 80) [.ref x, .int (nI 3)] g (xOne (some (.int (sumT (S 1) rr))) g) := by
  refine xm_of (by decide +kernel) (Nat.le_of_ble_eq_true rfl) ?_
  show XW _ _ 0 [(0, _), (1, _)] [] _ _
  refine xw_iload_n (pc := 0) dX1_account_0 1 rfl ?_
  refine xw_iconst (v := nI 0) (pc := 1) dX1_account_1 rfl ?_
  refine xw_bipush (v := nI 10) (pc := 2) dX1_account_2 (by decide +kernel) ?_
  refine xw_callV (pc := 4) (xr_S (as := [_, _, _]) ok_X1_isIn rfl (by decide) q1180 q784 dX1_account_4 rfl rfl (Nat.le_of_ble_eq_true rfl)) (SP_X1_isInT (by decide)) ?_
  refine xw_callU (pc := 7) (xr_S (as := [_]) ok_X1_check rfl (by decide) q1181 q1182 dX1_account_7 rfl rfl (Nat.le_of_ble_eq_true rfl)) (SP_X1_check_T) ?_
  refine xw_iload_n (pc := 10) dX1_account_10 1 rfl ?_
  refine xw_tableIn (x := nI 3) (pc := 11) 105 dX1_account_11 (by decide) (by decide) rfl rfl ?_
  refine xw_aload_n (pc := 105) dX1_account_105 0 rfl ?_
  refine xw_getS (b := p) (pc := 106) fd_X1_10 dX1_account_106 (by first | assumption | (simp [-List.getD_eq_getElem?_getD, xE_setI, xsz_setI, xsl_setI, xtag_setI, xown_setI, xlen_setI, xE_setR, xsz_setR, xsl_setR, xtag_setR, xown_setR, xlen_setR, xE_setW, xsz_setW, xsl_setW, xtag_setW, xown_setW, xlen_setW, xi_setR, xi_setW, xr_setI, xr_setW, xww_setI, xww_setR, xi_setI, xr_setR, xww_setW, xE_new, xsz_new, xsl_new, hM.tx, hM.xp, hM.l3, xsub]; done) | (simp [-List.getD_eq_getElem?_getD, xE_setI, xsz_setI, xsl_setI, xtag_setI, xown_setI, xlen_setI, xE_setR, xsz_setR, xsl_setR, xtag_setR, xown_setR, xlen_setR, xE_setW, xsz_setW, xsl_setW, xtag_setW, xown_setW, xlen_setW, xi_setR, xi_setW, xr_setI, xr_setW, xww_setI, xww_setR, xi_setI, xr_setR, xww_setW, xE_new, xsz_new, xsl_new, hM.tx, hM.xp, hM.l3] <;> rfl)) (by simp [-List.getD_eq_getElem?_getD, xE_setI, xsz_setI, xsl_setI, xtag_setI, xown_setI, xlen_setI, xE_setR, xsz_setR, xsl_setR, xtag_setR, xown_setR, xlen_setR, xE_setW, xsz_setW, xsl_setW, xtag_setW, xown_setW, xlen_setW, xi_setR, xi_setW, xr_setI, xr_setW, xww_setI, xww_setR, xi_setI, xr_setR, xww_setW, xE_new, xsz_new, xsl_new, hM.tx, hM.xp, hM.l3]) ?_
  refine xw_lamC (pc := 109) (List.mem_of_getElem? (i := 6) rfl) (Or.inr rfl) dX1_account_109 (Nat.le_of_ble_eq_true rfl) ?_
  refine xw_callV (pc := 114) (xr_V (as := [_]) ok_X2_sum rfl (by decide) q2192 q1237 q1238 (by rw [hM.P.tag]; rfl) (by rw [hM.P.tag]; rfl) dX1_account_114 rfl rfl (Nat.le_of_ble_eq_true rfl)) (SP_X2_sum (d := d + 75) (f := fun r => S 1 (23 + 20 * r + 7)) hM.P (fun r hr l rest Q h8 k => xw_callLam (xr_L77 q1241 dX2_sum_28 h8) (SP_X1_lambda_account_4 (d := d + 73) hM.P hr) (fun rs9 g9 h9 _ => by obtain ⟨rfl, rfl⟩ := h9; exact ⟨_, rfl, rfl, k⟩))) ?_
  refine xw_goto (pc := 117) 184 dX1_account_117 rfl ?_
  refine xw_iret (pc := 184) .int dX1_account_184 rfl ?_ 
  rw [sumF_T]
  exact ⟨rfl, rfl⟩

theorem SP_X1_account4 {d : Nat} {g : xG} {x p lk fa ka la n rr ww : Nat} {Z : xAd} {S : xMS} (hM : xMn g x p lk fa ka la Z S n rr ww) : XM M_X1_account (d + 80) [.ref x, .int (nI 4)] g (xOne (some (.int (maxD (S 1) rr))) g) := by
  refine xm_of (by decide +kernel) (Nat.le_of_ble_eq_true rfl) ?_
  show XW _ _ 0 [(0, _), (1, _)] [] _ _
  refine xw_iload_n (pc := 0) dX1_account_0 1 rfl ?_
  refine xw_iconst (v := nI 0) (pc := 1) dX1_account_1 rfl ?_
  refine xw_bipush (v := nI 10) (pc := 2) dX1_account_2 (by decide +kernel) ?_
  refine xw_callV (pc := 4) (xr_S (as := [_, _, _]) ok_X1_isIn rfl (by decide) q1180 q784 dX1_account_4 rfl rfl (Nat.le_of_ble_eq_true rfl)) (SP_X1_isInT (by decide)) ?_
  refine xw_callU (pc := 7) (xr_S (as := [_]) ok_X1_check rfl (by decide) q1181 q1182 dX1_account_7 rfl rfl (Nat.le_of_ble_eq_true rfl)) (SP_X1_check_T) ?_
  refine xw_iload_n (pc := 10) dX1_account_10 1 rfl ?_
  refine xw_tableIn (x := nI 4) (pc := 11) 120 dX1_account_11 (by decide) (by decide) rfl rfl ?_
  refine xw_aload_n (pc := 120) dX1_account_120 0 rfl ?_
  refine xw_callV (pc := 121) (xr_V (as := []) ok_X1_deepest rfl (by decide) q2193 q2195 qs44 (by rw [hM.tx]; rfl) (by rw [hM.tx]; rfl) dX1_account_121 rfl rfl (Nat.le_of_ble_eq_true rfl)) (SP_X1_deepest hM) ?_
  refine xw_goto (pc := 124) 184 dX1_account_124 rfl ?_
  refine xw_iret (pc := 184) .int dX1_account_184 rfl ?_ 
  exact ⟨rfl, rfl⟩

theorem SP_X1_account6 {d : Nat} {g : xG} {x p lk fa ka la n rr ww : Nat} {Z : xAd} {S : xMS} (hM : xMn g x p lk fa ka la Z S n rr ww) : XM M_X1_account (d + 80) [.ref x, .int (nI 6)] g (xVal (.int (nI (cntB (wRt (S 1) (-1) rr) ww))) (fun g' => xLb g' x lk fa ka la ∧ xFr (oEq 6) 2 g g')) := by
  have F1 : xFr oNo (0 + 2) g (xNew g (xLm 78 13 1 (fun _ => 0) (fun _ => some x)) 1) := (xFr.rf (O := oNo) (n := 0)).nw
  have hP1 : xPol (xNew g (xLm 78 13 1 (fun _ => 0) (fun _ => some x)) 1) p Z (S 1) n rr ww := hM.P.fr F1 (fun o _ h => h) (by unfold oNo; exact id)
  have hM1 : xMn (xNew g (xLm 78 13 1 (fun _ => 0) (fun _ => some x)) 1) x p lk fa ka la Z S n rr ww := hM.fr F1 (by unfold oKeep oNo; simp) hP1
  have k1 : xtag (xNew g (xLm 78 13 1 (fun _ => 0) (fun _ => some x)) 1) (xsz g) = 78 := (xtag_newS rfl).trans rfl
  have k2 : xown (xNew g (xLm 78 13 1 (fun _ => 0) (fun _ => some x)) 1) (xsz g) ≠ 0 := by rw [xown_newS rfl]; show (13 : Nat) ≠ 0; decide
  have k3 : 1 ≤ xlen (xNew g (xLm 78 13 1 (fun _ => 0) (fun _ => some x)) 1) (xsz g) := by rw [xlen_newS rfl]; exact Nat.le_refl _
  have k4 : xr (xNew g (xLm 78 13 1 (fun _ => 0) (fun _ => some x)) 1) (xsz g) 0 = some x := (xr_newS rfl).trans rfl
  have k7 : xown (xNew g (xLm 78 13 1 (fun _ => 0) (fun _ => some x)) 1) (xsz g) ≠ 6 := by rw [xown_newS rfl]; show (13 : Nat) ≠ 6; decide
  refine xm_of (by decide +kernel) (Nat.le_of_ble_eq_true rfl) ?_
  show XW _ _ 0 [(0, _), (1, _)] [] _ _
  refine xw_iload_n (pc := 0) dX1_account_0 1 rfl ?_
  refine xw_iconst (v := nI 0) (pc := 1) dX1_account_1 rfl ?_
  refine xw_bipush (v := nI 10) (pc := 2) dX1_account_2 (by decide +kernel) ?_
  refine xw_callV (pc := 4) (xr_S (as := [_, _, _]) ok_X1_isIn rfl (by decide) q1180 q784 dX1_account_4 rfl rfl (Nat.le_of_ble_eq_true rfl)) (SP_X1_isInT (by decide)) ?_
  refine xw_callU (pc := 7) (xr_S (as := [_]) ok_X1_check rfl (by decide) q1181 q1182 dX1_account_7 rfl rfl (Nat.le_of_ble_eq_true rfl)) (SP_X1_check_T) ?_
  refine xw_iload_n (pc := 10) dX1_account_10 1 rfl ?_
  refine xw_tableIn (x := nI 6) (pc := 11) 140 dX1_account_11 (by decide) (by decide) rfl rfl ?_
  refine xw_aload_n (pc := 140) dX1_account_140 0 rfl ?_
  refine xw_aload_n (pc := 141) dX1_account_141 0 rfl ?_
  refine xw_lam78 (pc := 142) 13 (by decide) (List.mem_of_getElem? (i := 7) rfl) rfl dX1_account_142 (Nat.le_of_ble_eq_true rfl) ?_
  refine xw_callF (pc := 147) (xr_V (as := [_]) ok_X1_sum rfl (by decide) q1692 q1694 qs28 (by rw [hM1.tx]; rfl) (by rw [hM1.tx]; rfl) dX1_account_147 rfl rfl (Nat.le_of_ble_eq_true rfl)) (SP_X1_sum (d := d + 3) hM1 (xTold_78 hM1 k1 k2 k7 k3 k4)) ?_
  intro g147 hc147 hm147
  refine xw_goto (pc := 150) 184 dX1_account_150 rfl ?_
  refine xw_iret (pc := 184) .int dX1_account_184 rfl ?_ 
  rw [sumF_B (wRt (S 1) (-1) rr)]
  exact ⟨rfl, hc147.1, ((F1.sub (fun _ h => h.elim) (Nat.le_refl _)).tr hc147.2).sub (fun _ h => h) (by omega)⟩

theorem SP_X1_account7 {d : Nat} {g : xG} {x sh Q sg : Nat} {s9 : Nat → Int32} (hx : xtag g x = 1) (h6 : xr g x 6 = some sh) (hS : xShQ g sh Q sg s9) : XM M_X1_account (d + 80) [.ref x, .int (nI 7)] g (xOne (some (.int (nI (cntB (osQ s9) 6)))) g) := by
  refine xm_of (by decide +kernel) (Nat.le_of_ble_eq_true rfl) ?_
  show XW _ _ 0 [(0, _), (1, _)] [] _ _
  refine xw_iload_n (pc := 0) dX1_account_0 1 rfl ?_
  refine xw_iconst (v := nI 0) (pc := 1) dX1_account_1 rfl ?_
  refine xw_bipush (v := nI 10) (pc := 2) dX1_account_2 (by decide +kernel) ?_
  refine xw_callV (pc := 4) (xr_S (as := [_, _, _]) ok_X1_isIn rfl (by decide) q1180 q784 dX1_account_4 rfl rfl (Nat.le_of_ble_eq_true rfl)) (SP_X1_isInT (by decide)) ?_
  refine xw_callU (pc := 7) (xr_S (as := [_]) ok_X1_check rfl (by decide) q1181 q1182 dX1_account_7 rfl rfl (Nat.le_of_ble_eq_true rfl)) (SP_X1_check_T) ?_
  refine xw_iload_n (pc := 10) dX1_account_10 1 rfl ?_
  refine xw_tableIn (x := nI 7) (pc := 11) 153 dX1_account_11 (by decide) (by decide) rfl rfl ?_
  refine xw_aload_n (pc := 153) dX1_account_153 0 rfl ?_
  refine xw_callV (pc := 154) (xr_V (as := []) ok_X1_onSheet rfl (by decide) q1703 q1705 qs29 (by rw [hx]; rfl) (by rw [hx]; rfl) dX1_account_154 rfl rfl (Nat.le_of_ble_eq_true rfl)) (SP_X1_onSheet hx h6 hS) ?_
  refine xw_goto (pc := 157) 184 dX1_account_157 rfl ?_
  refine xw_iret (pc := 184) .int dX1_account_184 rfl ?_ 
  exact ⟨rfl, rfl⟩

theorem SP_X1_account8 {d : Nat} {g : xG} {x rw0 : Nat} {s10 s11 : Nat → Int32} (hR : xRwQ g rw0 s10 s11) (hx : xtag g x = 1) (h7 : xr g x 7 = some rw0) : XM M_X1_account (d + 80) [.ref x, .int (nI 8)] g (xOne (some (.int (nI (cntB (kpQ s11) 3)))) g) := by
  refine xm_of (by decide +kernel) (Nat.le_of_ble_eq_true rfl) ?_
  show XW _ _ 0 [(0, _), (1, _)] [] _ _
  refine xw_iload_n (pc := 0) dX1_account_0 1 rfl ?_
  refine xw_iconst (v := nI 0) (pc := 1) dX1_account_1 rfl ?_
  refine xw_bipush (v := nI 10) (pc := 2) dX1_account_2 (by decide +kernel) ?_
  refine xw_callV (pc := 4) (xr_S (as := [_, _, _]) ok_X1_isIn rfl (by decide) q1180 q784 dX1_account_4 rfl rfl (Nat.le_of_ble_eq_true rfl)) (SP_X1_isInT (by decide)) ?_
  refine xw_callU (pc := 7) (xr_S (as := [_]) ok_X1_check rfl (by decide) q1181 q1182 dX1_account_7 rfl rfl (Nat.le_of_ble_eq_true rfl)) (SP_X1_check_T) ?_
  refine xw_iload_n (pc := 10) dX1_account_10 1 rfl ?_
  refine xw_tableIn (x := nI 8) (pc := 11) 160 dX1_account_11 (by decide) (by decide) rfl rfl ?_
  refine xw_aload_n (pc := 160) dX1_account_160 0 rfl ?_
  refine xw_callV (pc := 161) (xr_V (as := []) ok_X1_keptRows rfl (by decide) q2201 q2203 qs46 (by rw [hx]; rfl) (by rw [hx]; rfl) dX1_account_161 rfl rfl (Nat.le_of_ble_eq_true rfl)) (SP_X1_keptRows hR hx h7) ?_
  refine xw_goto (pc := 164) 184 dX1_account_164 rfl ?_
  refine xw_iret (pc := 184) .int dX1_account_184 rfl ?_ 
  exact ⟨rfl, rfl⟩

theorem SP_X1_account10 {d : Nat} {g : xG} {x dq da h : Nat} {ps : List Nat} (hx : xtag g x = 1) (h2 : xr g x 2 = some dq) (hD : xAD g 7 dq da h ps) : XM M_X1_account (d + 80) [.ref x, .int (nI 10)] g (xOne (some (.int (nI ps.length))) g) := by
  refine xm_of (by decide +kernel) (Nat.le_of_ble_eq_true rfl) ?_
  show XW _ _ 0 [(0, _), (1, _)] [] _ _
  refine xw_iload_n (pc := 0) dX1_account_0 1 rfl ?_
  refine xw_iconst (v := nI 0) (pc := 1) dX1_account_1 rfl ?_
  refine xw_bipush (v := nI 10) (pc := 2) dX1_account_2 (by decide +kernel) ?_
  refine xw_callV (pc := 4) (xr_S (as := [_, _, _]) ok_X1_isIn rfl (by decide) q1180 q784 dX1_account_4 rfl rfl (Nat.le_of_ble_eq_true rfl)) (SP_X1_isInT (by decide)) ?_
  refine xw_callU (pc := 7) (xr_S (as := [_]) ok_X1_check rfl (by decide) q1181 q1182 dX1_account_7 rfl rfl (Nat.le_of_ble_eq_true rfl)) (SP_X1_check_T) ?_
  refine xw_iload_n (pc := 10) dX1_account_10 1 rfl ?_
  refine xw_tableOut (pc := 11) 177 dX1_account_11 (by rw [nI_toInt (by omega)]; omega) rfl ?_
  refine xw_aload_n (pc := 177) dX1_account_177 0 rfl ?_
  refine xw_getS (b := dq) (pc := 178) fd_X1_19 dX1_account_178 (by first | assumption | (simp [-List.getD_eq_getElem?_getD, xE_setI, xsz_setI, xsl_setI, xtag_setI, xown_setI, xlen_setI, xE_setR, xsz_setR, xsl_setR, xtag_setR, xown_setR, xlen_setR, xE_setW, xsz_setW, xsl_setW, xtag_setW, xown_setW, xlen_setW, xi_setR, xi_setW, xr_setI, xr_setW, xww_setI, xww_setR, xi_setI, xr_setR, xww_setW, xE_new, xsz_new, xsl_new, hx, h2, xsub]; done) | (simp [-List.getD_eq_getElem?_getD, xE_setI, xsz_setI, xsl_setI, xtag_setI, xown_setI, xlen_setI, xE_setR, xsz_setR, xsl_setR, xtag_setR, xown_setR, xlen_setR, xE_setW, xsz_setW, xsl_setW, xtag_setW, xown_setW, xlen_setW, xi_setR, xi_setW, xr_setI, xr_setW, xww_setI, xww_setR, xi_setI, xr_setR, xww_setW, xE_new, xsz_new, xsl_new, hx, h2] <;> rfl)) (by simp [-List.getD_eq_getElem?_getD, xE_setI, xsz_setI, xsl_setI, xtag_setI, xown_setI, xlen_setI, xE_setR, xsz_setR, xsl_setR, xtag_setR, xown_setR, xlen_setR, xE_setW, xsz_setW, xsl_setW, xtag_setW, xown_setW, xlen_setW, xi_setR, xi_setW, xr_setI, xr_setW, xww_setI, xww_setR, xi_setI, xr_setR, xww_setW, xE_new, xsz_new, xsl_new, hx, h2]) ?_
  refine xw_callV (pc := 181) (xr_V (as := []) ok_J18_size rfl (by decide) q1139 q1140 q1141 (by rw [hD.tag]; rfl) (by rw [hD.tag]; rfl) dX1_account_181 rfl rfl (Nat.le_of_ble_eq_true rfl)) (SP_J18_size hD) ?_
  refine xw_iret (pc := 184) .int dX1_account_184 rfl ?_ 
  exact ⟨rfl, rfl⟩

