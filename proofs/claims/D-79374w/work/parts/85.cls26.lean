/-! CLASS 26: asked of cases -/
set_option maxRecDepth 100000
section M26
variable {g : xG} {x p lk fa ka la n rr ww : Nat} {Z : xAd} {S : xMS}
theorem xMn.tx (h : xMn g x p lk fa ka la Z S n rr ww) : xtag g x = 1 := h.1.1
theorem xMn.ox (h : xMn g x p lk fa ka la Z S n rr ww) : xown g x = 1 := h.1.2.1
theorem xMn.xp (h : xMn g x p lk fa ka la Z S n rr ww) : xr g x 0 = some p := h.1.2.2
theorem xMn.P (h : xMn g x p lk fa ka la Z S n rr ww) : xPol g p Z (S 1) n rr ww := h.2.1
theorem xMn.l3 (h : xMn g x p lk fa ka la Z S n rr ww) : xr g x 3 = some lk := h.2.2.1
theorem xMn.B (h : xMn g x p lk fa ka la Z S n rr ww) : xLb g x lk fa ka la := h.2.2.2.1
theorem xMn.cn (h : xMn g x p lk fa ka la Z S n rr ww) : xCn g := h.2.2.2.2.1
theorem xMn.em (h : xMn g x p lk fa ka la Z S n rr ww) : xEmp g := h.2.2.2.2.2
end M26
theorem SP_X1_covers_F {d : Nat} {g : xG} {x p lk fa ka la n rr ww : Nat} {Z : xAd} {S : xMS} (hM : xMn g x p lk fa ka la Z S n rr ww) {v a b c : Int32} (hv : ¬ inR v (nI 0) (nI rr - nI 1) = true) : XM M_X1_covers (d + 71) [.ref x, .int v, .int a, .int b, .int c] g (xThr (xsz g) (xExc g 23)) := by
  have hlr := hM.P.lr
  have r16 := hM.P.wf.r16
  refine xm_of (by decide +kernel) (Nat.le_of_ble_eq_true rfl) ?_
  show XW _ _ 0 [(0, _), (1, _), (2, _), (3, _), (4, _)] [] _ _
  refine xw_aload_n (pc := 0) dX1_covers_0 0 rfl ?_
  refine xw_getS (b := p) (pc := 1) fd_X1_10 dX1_covers_1 (by first | assumption | (simp [-List.getD_eq_getElem?_getD, xE_setI, xsz_setI, xsl_setI, xtag_setI, xown_setI, xlen_setI, xE_setR, xsz_setR, xsl_setR, xtag_setR, xown_setR, xlen_setR, xE_setW, xsz_setW, xsl_setW, xtag_setW, xown_setW, xlen_setW, xi_setR, xi_setW, xr_setI, xr_setW, xww_setI, xww_setR, xi_setI, xr_setR, xww_setW, xE_new, xsz_new, xsl_new, hM.tx, hM.xp, hM.l3, xsub]; done) | (simp [-List.getD_eq_getElem?_getD, xE_setI, xsz_setI, xsl_setI, xtag_setI, xown_setI, xlen_setI, xE_setR, xsz_setR, xsl_setR, xtag_setR, xown_setR, xlen_setR, xE_setW, xsz_setW, xsl_setW, xtag_setW, xown_setW, xlen_setW, xi_setR, xi_setW, xr_setI, xr_setW, xww_setI, xww_setR, xi_setI, xr_setR, xww_setW, xE_new, xsz_new, xsl_new, hM.tx, hM.xp, hM.l3] <;> rfl)) (by simp [-List.getD_eq_getElem?_getD, xE_setI, xsz_setI, xsl_setI, xtag_setI, xown_setI, xlen_setI, xE_setR, xsz_setR, xsl_setR, xtag_setR, xown_setR, xlen_setR, xE_setW, xsz_setW, xsl_setW, xtag_setW, xown_setW, xlen_setW, xi_setR, xi_setW, xr_setI, xr_setW, xww_setI, xww_setR, xi_setI, xr_setR, xww_setW, xE_new, xsz_new, xsl_new, hM.tx, hM.xp, hM.l3]) ?_
  refine xw_iload_n (pc := 4) dX1_covers_4 1 rfl ?_
  refine xw_callX (pc := 5) (xr_V (as := [_]) ok_X2_rule rfl (by decide) q1338 q1339 q1340 (by rw [hM.P.tag]; rfl) (by rw [hM.P.tag]; rfl) dX1_covers_5 rfl rfl (Nat.le_of_ble_eq_true rfl)) (SP_X2_rule_F hM.P.pl v (by rw [hlr]; exact hv)) ?_
  exact xx_out0 rfl (by rw [xExc_tag]; decide) (by rw [xExc_tag]; decide) (by rw [xExc_own]; decide) ⟨rfl, rfl⟩

theorem SP_X1_covers_W1 {d : Nat} {g : xG} {x p lk fa ka la n rr ww : Nat} {Z : xAd} {S : xMS} (hM : xMn g x p lk fa ka la Z S n rr ww) {r : Nat} {a b c : Int32} (hr : r < rr) (hv : ¬ inR a (nI 0) (nI n - nI 1) = true) : XM M_X1_covers (d + 71) [.ref x, .int (nI r), .int a, .int b, .int c] g (xThr (xsz g) (xExc g 23)) := by
  have hlr := hM.P.lr
  have r16 := hM.P.wf.r16
  refine xm_of (by decide +kernel) (Nat.le_of_ble_eq_true rfl) ?_
  show XW _ _ 0 [(0, _), (1, _), (2, _), (3, _), (4, _)] [] _ _
  refine xw_aload_n (pc := 0) dX1_covers_0 0 rfl ?_
  refine xw_getS (b := p) (pc := 1) fd_X1_10 dX1_covers_1 (by first | assumption | (simp [-List.getD_eq_getElem?_getD, xE_setI, xsz_setI, xsl_setI, xtag_setI, xown_setI, xlen_setI, xE_setR, xsz_setR, xsl_setR, xtag_setR, xown_setR, xlen_setR, xE_setW, xsz_setW, xsl_setW, xtag_setW, xown_setW, xlen_setW, xi_setR, xi_setW, xr_setI, xr_setW, xww_setI, xww_setR, xi_setI, xr_setR, xww_setW, xE_new, xsz_new, xsl_new, hM.tx, hM.xp, hM.l3, xsub]; done) | (simp [-List.getD_eq_getElem?_getD, xE_setI, xsz_setI, xsl_setI, xtag_setI, xown_setI, xlen_setI, xE_setR, xsz_setR, xsl_setR, xtag_setR, xown_setR, xlen_setR, xE_setW, xsz_setW, xsl_setW, xtag_setW, xown_setW, xlen_setW, xi_setR, xi_setW, xr_setI, xr_setW, xww_setI, xww_setR, xi_setI, xr_setR, xww_setW, xE_new, xsz_new, xsl_new, hM.tx, hM.xp, hM.l3] <;> rfl)) (by simp [-List.getD_eq_getElem?_getD, xE_setI, xsz_setI, xsl_setI, xtag_setI, xown_setI, xlen_setI, xE_setR, xsz_setR, xsl_setR, xtag_setR, xown_setR, xlen_setR, xE_setW, xsz_setW, xsl_setW, xtag_setW, xown_setW, xlen_setW, xi_setR, xi_setW, xr_setI, xr_setW, xww_setI, xww_setR, xi_setI, xr_setR, xww_setW, xE_new, xsz_new, xsl_new, hM.tx, hM.xp, hM.l3]) ?_
  refine xw_iload_n (pc := 4) dX1_covers_4 1 rfl ?_
  refine xw_callV (pc := 5) (xr_V (as := [_]) ok_X2_rule rfl (by decide) q1338 q1339 q1340 (by rw [hM.P.tag]; rfl) (by rw [hM.P.tag]; rfl) dX1_covers_5 rfl rfl (Nat.le_of_ble_eq_true rfl)) (SP_X2_rule hM.P.pl r (by omega) (hM.P.ru hr).1) ?_
  refine xw_astore (l' := [(5, _), (0, _), (1, _), (2, _), (3, _), (4, _)]) (pc := 8) dX1_covers_8 (by decide) rfl ?_
  refine xw_aload_n (pc := 10) dX1_covers_10 1 rfl ?_
  refine xw_iload_n (pc := 11) dX1_covers_11 3 rfl ?_
  refine xw_iload_n (pc := 12) dX1_covers_12 4 rfl ?_
  refine xw_iload (pc := 13) dX1_covers_13 5 rfl ?_
  refine xw_callX (pc := 15) (xr_V (as := [_, _, _]) ok_X1_looked rfl (by decide) q1512 q1514 qs26 (by rw [hM.tx]; rfl) (by rw [hM.tx]; rfl) dX1_covers_15 rfl rfl (Nat.le_of_ble_eq_true rfl)) (SP_X1_looked_F1 hM.tx hM.xp hM.P hv) ?_
  exact xx_out0 rfl (by rw [xExc_tag]; decide) (by rw [xExc_tag]; decide) (by rw [xExc_own]; decide) ⟨rfl, rfl⟩

theorem SP_X1_covers_W2 {d : Nat} {g : xG} {x p lk fa ka la n rr ww : Nat} {Z : xAd} {S : xMS} (hM : xMn g x p lk fa ka la Z S n rr ww) {r k : Nat} {b c : Int32} (hr : r < rr) (hk : k < n) (hcs : isCs b c = false) : XM M_X1_covers (d + 71) [.ref x, .int (nI r), .int (nI k), .int b, .int c] g (xThr (xsz g) (xExc g 22)) := by
  have hlr := hM.P.lr
  have r16 := hM.P.wf.r16
  refine xm_of (by decide +kernel) (Nat.le_of_ble_eq_true rfl) ?_
  show XW _ _ 0 [(0, _), (1, _), (2, _), (3, _), (4, _)] [] _ _
  refine xw_aload_n (pc := 0) dX1_covers_0 0 rfl ?_
  refine xw_getS (b := p) (pc := 1) fd_X1_10 dX1_covers_1 (by first | assumption | (simp [-List.getD_eq_getElem?_getD, xE_setI, xsz_setI, xsl_setI, xtag_setI, xown_setI, xlen_setI, xE_setR, xsz_setR, xsl_setR, xtag_setR, xown_setR, xlen_setR, xE_setW, xsz_setW, xsl_setW, xtag_setW, xown_setW, xlen_setW, xi_setR, xi_setW, xr_setI, xr_setW, xww_setI, xww_setR, xi_setI, xr_setR, xww_setW, xE_new, xsz_new, xsl_new, hM.tx, hM.xp, hM.l3, xsub]; done) | (simp [-List.getD_eq_getElem?_getD, xE_setI, xsz_setI, xsl_setI, xtag_setI, xown_setI, xlen_setI, xE_setR, xsz_setR, xsl_setR, xtag_setR, xown_setR, xlen_setR, xE_setW, xsz_setW, xsl_setW, xtag_setW, xown_setW, xlen_setW, xi_setR, xi_setW, xr_setI, xr_setW, xww_setI, xww_setR, xi_setI, xr_setR, xww_setW, xE_new, xsz_new, xsl_new, hM.tx, hM.xp, hM.l3] <;> rfl)) (by simp [-List.getD_eq_getElem?_getD, xE_setI, xsz_setI, xsl_setI, xtag_setI, xown_setI, xlen_setI, xE_setR, xsz_setR, xsl_setR, xtag_setR, xown_setR, xlen_setR, xE_setW, xsz_setW, xsl_setW, xtag_setW, xown_setW, xlen_setW, xi_setR, xi_setW, xr_setI, xr_setW, xww_setI, xww_setR, xi_setI, xr_setR, xww_setW, xE_new, xsz_new, xsl_new, hM.tx, hM.xp, hM.l3]) ?_
  refine xw_iload_n (pc := 4) dX1_covers_4 1 rfl ?_
  refine xw_callV (pc := 5) (xr_V (as := [_]) ok_X2_rule rfl (by decide) q1338 q1339 q1340 (by rw [hM.P.tag]; rfl) (by rw [hM.P.tag]; rfl) dX1_covers_5 rfl rfl (Nat.le_of_ble_eq_true rfl)) (SP_X2_rule hM.P.pl r (by omega) (hM.P.ru hr).1) ?_
  refine xw_astore (l' := [(5, _), (0, _), (1, _), (2, _), (3, _), (4, _)]) (pc := 8) dX1_covers_8 (by decide) rfl ?_
  refine xw_aload_n (pc := 10) dX1_covers_10 1 rfl ?_
  refine xw_iload_n (pc := 11) dX1_covers_11 3 rfl ?_
  refine xw_iload_n (pc := 12) dX1_covers_12 4 rfl ?_
  refine xw_iload (pc := 13) dX1_covers_13 5 rfl ?_
  refine xw_callX (pc := 15) (xr_V (as := [_, _, _]) ok_X1_looked rfl (by decide) q1512 q1514 qs26 (by rw [hM.tx]; rfl) (by rw [hM.tx]; rfl) dX1_covers_15 rfl rfl (Nat.le_of_ble_eq_true rfl)) (SP_X1_looked_F2 hM.tx hM.xp hM.P hk hcs) ?_
  exact xx_out0 rfl (by rw [xExc_tag]; decide) (by rw [xExc_tag]; decide) (by rw [xExc_own]; decide) ⟨rfl, rfl⟩

theorem SP_X1_covers {d : Nat} {g : xG} {x p lk fa ka la n rr ww : Nat} {Z : xAd} {S : xMS} (hM : xMn g x p lk fa ka la Z S n rr ww) {r : Nat} {k : Nat} {day feats : Int32} (hk : k < n) (hcs : isCs day feats = true) (hr : r < rr) : XM M_X1_covers (d + 71) [.ref x, .int (nI r), .int (nI k), .int day, .int feats] g (xVal (.int (bI (cov (S 1) (-1) k day feats r))) (fun g' => xCs g' x lk fa ka la p Z (S 1) n rr ww k day feats (-1) (hld (isPa (S 1)) rr (cov (S 1) (-1) k day feats)) ∧ xFr (oEq 6) 0 g g')) := by
  have hlr := hM.P.lr
  have r16 := hM.P.wf.r16
  refine xm_of (by decide +kernel) (Nat.le_of_ble_eq_true rfl) ?_
  show XW _ _ 0 [(0, _), (1, _), (2, _), (3, _), (4, _)] [] _ _
  refine xw_aload_n (pc := 0) dX1_covers_0 0 rfl ?_
  refine xw_getS (b := p) (pc := 1) fd_X1_10 dX1_covers_1 (by first | assumption | (simp [-List.getD_eq_getElem?_getD, xE_setI, xsz_setI, xsl_setI, xtag_setI, xown_setI, xlen_setI, xE_setR, xsz_setR, xsl_setR, xtag_setR, xown_setR, xlen_setR, xE_setW, xsz_setW, xsl_setW, xtag_setW, xown_setW, xlen_setW, xi_setR, xi_setW, xr_setI, xr_setW, xww_setI, xww_setR, xi_setI, xr_setR, xww_setW, xE_new, xsz_new, xsl_new, hM.tx, hM.xp, hM.l3, xsub]; done) | (simp [-List.getD_eq_getElem?_getD, xE_setI, xsz_setI, xsl_setI, xtag_setI, xown_setI, xlen_setI, xE_setR, xsz_setR, xsl_setR, xtag_setR, xown_setR, xlen_setR, xE_setW, xsz_setW, xsl_setW, xtag_setW, xown_setW, xlen_setW, xi_setR, xi_setW, xr_setI, xr_setW, xww_setI, xww_setR, xi_setI, xr_setR, xww_setW, xE_new, xsz_new, xsl_new, hM.tx, hM.xp, hM.l3] <;> rfl)) (by simp [-List.getD_eq_getElem?_getD, xE_setI, xsz_setI, xsl_setI, xtag_setI, xown_setI, xlen_setI, xE_setR, xsz_setR, xsl_setR, xtag_setR, xown_setR, xlen_setR, xE_setW, xsz_setW, xsl_setW, xtag_setW, xown_setW, xlen_setW, xi_setR, xi_setW, xr_setI, xr_setW, xww_setI, xww_setR, xi_setI, xr_setR, xww_setW, xE_new, xsz_new, xsl_new, hM.tx, hM.xp, hM.l3]) ?_
  refine xw_iload_n (pc := 4) dX1_covers_4 1 rfl ?_
  refine xw_callV (pc := 5) (xr_V (as := [_]) ok_X2_rule rfl (by decide) q1338 q1339 q1340 (by rw [hM.P.tag]; rfl) (by rw [hM.P.tag]; rfl) dX1_covers_5 rfl rfl (Nat.le_of_ble_eq_true rfl)) (SP_X2_rule hM.P.pl r (by omega) (hM.P.ru hr).1) ?_
  refine xw_astore (l' := [(5, _), (0, _), (1, _), (2, _), (3, _), (4, _)]) (pc := 8) dX1_covers_8 (by decide) rfl ?_
  refine xw_aload_n (pc := 10) dX1_covers_10 1 rfl ?_
  refine xw_iload_n (pc := 11) dX1_covers_11 3 rfl ?_
  refine xw_iload_n (pc := 12) dX1_covers_12 4 rfl ?_
  refine xw_iload (pc := 13) dX1_covers_13 5 rfl ?_
  refine xw_callF (pc := 15) (xr_V (as := [_, _, _]) ok_X1_looked rfl (by decide) q1512 q1514 qs26 (by rw [hM.tx]; rfl) (by rw [hM.tx]; rfl) dX1_covers_15 rfl rfl (Nat.le_of_ble_eq_true rfl)) (SP_X1_looked hM.tx hM.ox hM.xp hM.P hM.l3 hM.B hk hcs) ?_
  intro g15 hc15 hm15
  refine xw_aload (pc := 18) dX1_covers_18 0 rfl ?_
  refine xw_callV (pc := 20) (xr_V (as := [_]) ok_X5_covers rfl (by decide) q1521 q774 q775 (by first | (rw [hc15.1.lt]; rfl) | (rw [hM.B.lt]; rfl)) (by first | (rw [hc15.1.lt]; rfl) | (rw [hM.B.lt]; rfl)) dX1_covers_20 rfl rfl (Nat.le_of_ble_eq_true rfl)) (SP_X5_cov (d := d + 58) hc15.1 hr) ?_
  refine xw_iret (pc := 23) .boolean dX1_covers_23 rfl ?_ (by first | rfl | (cases ‹Bool› <;> rfl) | exact xnB _)
  exact ⟨rfl, hc15⟩

theorem SP_X1_holds_F {d : Nat} {g : xG} {x p lk fa ka la n rr ww : Nat} {Z : xAd} {S : xMS} (hM : xMn g x p lk fa ka la Z S n rr ww) {v a b c : Int32} (hv : ¬ inR v (nI 0) (nI rr - nI 1) = true) : XM M_X1_holds (d + 71) [.ref x, .int v, .int a, .int b, .int c] g (xThr (xsz g) (xExc g 23)) := by
  have hlr := hM.P.lr
  have r16 := hM.P.wf.r16
  refine xm_of (by decide +kernel) (Nat.le_of_ble_eq_true rfl) ?_
  show XW _ _ 0 [(0, _), (1, _), (2, _), (3, _), (4, _)] [] _ _
  refine xw_aload_n (pc := 0) dX1_holds_0 0 rfl ?_
  refine xw_getS (b := p) (pc := 1) fd_X1_10 dX1_holds_1 (by first | assumption | (simp [-List.getD_eq_getElem?_getD, xE_setI, xsz_setI, xsl_setI, xtag_setI, xown_setI, xlen_setI, xE_setR, xsz_setR, xsl_setR, xtag_setR, xown_setR, xlen_setR, xE_setW, xsz_setW, xsl_setW, xtag_setW, xown_setW, xlen_setW, xi_setR, xi_setW, xr_setI, xr_setW, xww_setI, xww_setR, xi_setI, xr_setR, xww_setW, xE_new, xsz_new, xsl_new, hM.tx, hM.xp, hM.l3, xsub]; done) | (simp [-List.getD_eq_getElem?_getD, xE_setI, xsz_setI, xsl_setI, xtag_setI, xown_setI, xlen_setI, xE_setR, xsz_setR, xsl_setR, xtag_setR, xown_setR, xlen_setR, xE_setW, xsz_setW, xsl_setW, xtag_setW, xown_setW, xlen_setW, xi_setR, xi_setW, xr_setI, xr_setW, xww_setI, xww_setR, xi_setI, xr_setR, xww_setW, xE_new, xsz_new, xsl_new, hM.tx, hM.xp, hM.l3] <;> rfl)) (by simp [-List.getD_eq_getElem?_getD, xE_setI, xsz_setI, xsl_setI, xtag_setI, xown_setI, xlen_setI, xE_setR, xsz_setR, xsl_setR, xtag_setR, xown_setR, xlen_setR, xE_setW, xsz_setW, xsl_setW, xtag_setW, xown_setW, xlen_setW, xi_setR, xi_setW, xr_setI, xr_setW, xww_setI, xww_setR, xi_setI, xr_setR, xww_setW, xE_new, xsz_new, xsl_new, hM.tx, hM.xp, hM.l3]) ?_
  refine xw_iload_n (pc := 4) dX1_holds_4 1 rfl ?_
  refine xw_callX (pc := 5) (xr_V (as := [_]) ok_X2_rule rfl (by decide) q1338 q1339 q1340 (by rw [hM.P.tag]; rfl) (by rw [hM.P.tag]; rfl) dX1_holds_5 rfl rfl (Nat.le_of_ble_eq_true rfl)) (SP_X2_rule_F hM.P.pl v (by rw [hlr]; exact hv)) ?_
  exact xx_out0 rfl (by rw [xExc_tag]; decide) (by rw [xExc_tag]; decide) (by rw [xExc_own]; decide) ⟨rfl, rfl⟩

theorem SP_X1_holds_W1 {d : Nat} {g : xG} {x p lk fa ka la n rr ww : Nat} {Z : xAd} {S : xMS} (hM : xMn g x p lk fa ka la Z S n rr ww) {r : Nat} {a b c : Int32} (hr : r < rr) (hv : ¬ inR a (nI 0) (nI n - nI 1) = true) : XM M_X1_holds (d + 71) [.ref x, .int (nI r), .int a, .int b, .int c] g (xThr (xsz g) (xExc g 23)) := by
  have hlr := hM.P.lr
  have r16 := hM.P.wf.r16
  refine xm_of (by decide +kernel) (Nat.le_of_ble_eq_true rfl) ?_
  show XW _ _ 0 [(0, _), (1, _), (2, _), (3, _), (4, _)] [] _ _
  refine xw_aload_n (pc := 0) dX1_holds_0 0 rfl ?_
  refine xw_getS (b := p) (pc := 1) fd_X1_10 dX1_holds_1 (by first | assumption | (simp [-List.getD_eq_getElem?_getD, xE_setI, xsz_setI, xsl_setI, xtag_setI, xown_setI, xlen_setI, xE_setR, xsz_setR, xsl_setR, xtag_setR, xown_setR, xlen_setR, xE_setW, xsz_setW, xsl_setW, xtag_setW, xown_setW, xlen_setW, xi_setR, xi_setW, xr_setI, xr_setW, xww_setI, xww_setR, xi_setI, xr_setR, xww_setW, xE_new, xsz_new, xsl_new, hM.tx, hM.xp, hM.l3, xsub]; done) | (simp [-List.getD_eq_getElem?_getD, xE_setI, xsz_setI, xsl_setI, xtag_setI, xown_setI, xlen_setI, xE_setR, xsz_setR, xsl_setR, xtag_setR, xown_setR, xlen_setR, xE_setW, xsz_setW, xsl_setW, xtag_setW, xown_setW, xlen_setW, xi_setR, xi_setW, xr_setI, xr_setW, xww_setI, xww_setR, xi_setI, xr_setR, xww_setW, xE_new, xsz_new, xsl_new, hM.tx, hM.xp, hM.l3] <;> rfl)) (by simp [-List.getD_eq_getElem?_getD, xE_setI, xsz_setI, xsl_setI, xtag_setI, xown_setI, xlen_setI, xE_setR, xsz_setR, xsl_setR, xtag_setR, xown_setR, xlen_setR, xE_setW, xsz_setW, xsl_setW, xtag_setW, xown_setW, xlen_setW, xi_setR, xi_setW, xr_setI, xr_setW, xww_setI, xww_setR, xi_setI, xr_setR, xww_setW, xE_new, xsz_new, xsl_new, hM.tx, hM.xp, hM.l3]) ?_
  refine xw_iload_n (pc := 4) dX1_holds_4 1 rfl ?_
  refine xw_callV (pc := 5) (xr_V (as := [_]) ok_X2_rule rfl (by decide) q1338 q1339 q1340 (by rw [hM.P.tag]; rfl) (by rw [hM.P.tag]; rfl) dX1_holds_5 rfl rfl (Nat.le_of_ble_eq_true rfl)) (SP_X2_rule hM.P.pl r (by omega) (hM.P.ru hr).1) ?_
  refine xw_astore (l' := [(5, _), (0, _), (1, _), (2, _), (3, _), (4, _)]) (pc := 8) dX1_holds_8 (by decide) rfl ?_
  refine xw_aload_n (pc := 10) dX1_holds_10 1 rfl ?_
  refine xw_iload_n (pc := 11) dX1_holds_11 3 rfl ?_
  refine xw_iload_n (pc := 12) dX1_holds_12 4 rfl ?_
  refine xw_iload (pc := 13) dX1_holds_13 5 rfl ?_
  refine xw_callX (pc := 15) (xr_V (as := [_, _, _]) ok_X1_looked rfl (by decide) q1512 q1514 qs26 (by rw [hM.tx]; rfl) (by rw [hM.tx]; rfl) dX1_holds_15 rfl rfl (Nat.le_of_ble_eq_true rfl)) (SP_X1_looked_F1 hM.tx hM.xp hM.P hv) ?_
  exact xx_out0 rfl (by rw [xExc_tag]; decide) (by rw [xExc_tag]; decide) (by rw [xExc_own]; decide) ⟨rfl, rfl⟩

theorem SP_X1_holds_W2 {d : Nat} {g : xG} {x p lk fa ka la n rr ww : Nat} {Z : xAd} {S : xMS} (hM : xMn g x p lk fa ka la Z S n rr ww) {r k : Nat} {b c : Int32} (hr : r < rr) (hk : k < n) (hcs : isCs b c = false) : XM M_X1_holds (d + 71) [.ref x, .int (nI r), .int (nI k), .int b, .int c] g (xThr (xsz g) (xExc g 22)) := by
  have hlr := hM.P.lr
  have r16 := hM.P.wf.r16
  refine xm_of (by decide +kernel) (Nat.le_of_ble_eq_true rfl) ?_
  show XW _ _ 0 [(0, _), (1, _), (2, _), (3, _), (4, _)] [] _ _
  refine xw_aload_n (pc := 0) dX1_holds_0 0 rfl ?_
  refine xw_getS (b := p) (pc := 1) fd_X1_10 dX1_holds_1 (by first | assumption | (simp [-List.getD_eq_getElem?_getD, xE_setI, xsz_setI, xsl_setI, xtag_setI, xown_setI, xlen_setI, xE_setR, xsz_setR, xsl_setR, xtag_setR, xown_setR, xlen_setR, xE_setW, xsz_setW, xsl_setW, xtag_setW, xown_setW, xlen_setW, xi_setR, xi_setW, xr_setI, xr_setW, xww_setI, xww_setR, xi_setI, xr_setR, xww_setW, xE_new, xsz_new, xsl_new, hM.tx, hM.xp, hM.l3, xsub]; done) | (simp [-List.getD_eq_getElem?_getD, xE_setI, xsz_setI, xsl_setI, xtag_setI, xown_setI, xlen_setI, xE_setR, xsz_setR, xsl_setR, xtag_setR, xown_setR, xlen_setR, xE_setW, xsz_setW, xsl_setW, xtag_setW, xown_setW, xlen_setW, xi_setR, xi_setW, xr_setI, xr_setW, xww_setI, xww_setR, xi_setI, xr_setR, xww_setW, xE_new, xsz_new, xsl_new, hM.tx, hM.xp, hM.l3] <;> rfl)) (by simp [-List.getD_eq_getElem?_getD, xE_setI, xsz_setI, xsl_setI, xtag_setI, xown_setI, xlen_setI, xE_setR, xsz_setR, xsl_setR, xtag_setR, xown_setR, xlen_setR, xE_setW, xsz_setW, xsl_setW, xtag_setW, xown_setW, xlen_setW, xi_setR, xi_setW, xr_setI, xr_setW, xww_setI, xww_setR, xi_setI, xr_setR, xww_setW, xE_new, xsz_new, xsl_new, hM.tx, hM.xp, hM.l3]) ?_
  refine xw_iload_n (pc := 4) dX1_holds_4 1 rfl ?_
  refine xw_callV (pc := 5) (xr_V (as := [_]) ok_X2_rule rfl (by decide) q1338 q1339 q1340 (by rw [hM.P.tag]; rfl) (by rw [hM.P.tag]; rfl) dX1_holds_5 rfl rfl (Nat.le_of_ble_eq_true rfl)) (SP_X2_rule hM.P.pl r (by omega) (hM.P.ru hr).1) ?_
  refine xw_astore (l' := [(5, _), (0, _), (1, _), (2, _), (3, _), (4, _)]) (pc := 8) dX1_holds_8 (by decide) rfl ?_
  refine xw_aload_n (pc := 10) dX1_holds_10 1 rfl ?_
  refine xw_iload_n (pc := 11) dX1_holds_11 3 rfl ?_
  refine xw_iload_n (pc := 12) dX1_holds_12 4 rfl ?_
  refine xw_iload (pc := 13) dX1_holds_13 5 rfl ?_
  refine xw_callX (pc := 15) (xr_V (as := [_, _, _]) ok_X1_looked rfl (by decide) q1512 q1514 qs26 (by rw [hM.tx]; rfl) (by rw [hM.tx]; rfl) dX1_holds_15 rfl rfl (Nat.le_of_ble_eq_true rfl)) (SP_X1_looked_F2 hM.tx hM.xp hM.P hk hcs) ?_
  exact xx_out0 rfl (by rw [xExc_tag]; decide) (by rw [xExc_tag]; decide) (by rw [xExc_own]; decide) ⟨rfl, rfl⟩

theorem SP_X1_holds {d : Nat} {g : xG} {x p lk fa ka la n rr ww : Nat} {Z : xAd} {S : xMS} (hM : xMn g x p lk fa ka la Z S n rr ww) {r : Nat} {k : Nat} {day feats : Int32} (hk : k < n) (hcs : isCs day feats = true) (hr : r < rr) : XM M_X1_holds (d + 71) [.ref x, .int (nI r), .int (nI k), .int day, .int feats] g (xVal (.int (bI ((hld (isPa (S 1)) rr (cov (S 1) (-1) k day feats)) r))) (fun g' => xCs g' x lk fa ka la p Z (S 1) n rr ww k day feats (-1) (hld (isPa (S 1)) rr (cov (S 1) (-1) k day feats)) ∧ xFr (oEq 6) 0 g g')) := by
  have hlr := hM.P.lr
  have r16 := hM.P.wf.r16
  refine xm_of (by decide +kernel) (Nat.le_of_ble_eq_true rfl) ?_
  show XW _ _ 0 [(0, _), (1, _), (2, _), (3, _), (4, _)] [] _ _
  refine xw_aload_n (pc := 0) dX1_holds_0 0 rfl ?_
  refine xw_getS (b := p) (pc := 1) fd_X1_10 dX1_holds_1 (by first | assumption | (simp [-List.getD_eq_getElem?_getD, xE_setI, xsz_setI, xsl_setI, xtag_setI, xown_setI, xlen_setI, xE_setR, xsz_setR, xsl_setR, xtag_setR, xown_setR, xlen_setR, xE_setW, xsz_setW, xsl_setW, xtag_setW, xown_setW, xlen_setW, xi_setR, xi_setW, xr_setI, xr_setW, xww_setI, xww_setR, xi_setI, xr_setR, xww_setW, xE_new, xsz_new, xsl_new, hM.tx, hM.xp, hM.l3, xsub]; done) | (simp [-List.getD_eq_getElem?_getD, xE_setI, xsz_setI, xsl_setI, xtag_setI, xown_setI, xlen_setI, xE_setR, xsz_setR, xsl_setR, xtag_setR, xown_setR, xlen_setR, xE_setW, xsz_setW, xsl_setW, xtag_setW, xown_setW, xlen_setW, xi_setR, xi_setW, xr_setI, xr_setW, xww_setI, xww_setR, xi_setI, xr_setR, xww_setW, xE_new, xsz_new, xsl_new, hM.tx, hM.xp, hM.l3] <;> rfl)) (by simp [-List.getD_eq_getElem?_getD, xE_setI, xsz_setI, xsl_setI, xtag_setI, xown_setI, xlen_setI, xE_setR, xsz_setR, xsl_setR, xtag_setR, xown_setR, xlen_setR, xE_setW, xsz_setW, xsl_setW, xtag_setW, xown_setW, xlen_setW, xi_setR, xi_setW, xr_setI, xr_setW, xww_setI, xww_setR, xi_setI, xr_setR, xww_setW, xE_new, xsz_new, xsl_new, hM.tx, hM.xp, hM.l3]) ?_
  refine xw_iload_n (pc := 4) dX1_holds_4 1 rfl ?_
  refine xw_callV (pc := 5) (xr_V (as := [_]) ok_X2_rule rfl (by decide) q1338 q1339 q1340 (by rw [hM.P.tag]; rfl) (by rw [hM.P.tag]; rfl) dX1_holds_5 rfl rfl (Nat.le_of_ble_eq_true rfl)) (SP_X2_rule hM.P.pl r (by omega) (hM.P.ru hr).1) ?_
  refine xw_astore (l' := [(5, _), (0, _), (1, _), (2, _), (3, _), (4, _)]) (pc := 8) dX1_holds_8 (by decide) rfl ?_
  refine xw_aload_n (pc := 10) dX1_holds_10 1 rfl ?_
  refine xw_iload_n (pc := 11) dX1_holds_11 3 rfl ?_
  refine xw_iload_n (pc := 12) dX1_holds_12 4 rfl ?_
  refine xw_iload (pc := 13) dX1_holds_13 5 rfl ?_
  refine xw_callF (pc := 15) (xr_V (as := [_, _, _]) ok_X1_looked rfl (by decide) q1512 q1514 qs26 (by rw [hM.tx]; rfl) (by rw [hM.tx]; rfl) dX1_holds_15 rfl rfl (Nat.le_of_ble_eq_true rfl)) (SP_X1_looked hM.tx hM.ox hM.xp hM.P hM.l3 hM.B hk hcs) ?_
  intro g15 hc15 hm15
  refine xw_aload (pc := 18) dX1_holds_18 0 rfl ?_
  refine xw_callF (pc := 20) (xr_V (as := [_]) ok_X5_holds rfl (by decide) q1529 q766 q767 (by first | (rw [hc15.1.lt]; rfl) | (rw [hM.B.lt]; rfl)) (by first | (rw [hc15.1.lt]; rfl) | (rw [hM.B.lt]; rfl)) dX1_holds_20 rfl rfl (Nat.le_of_ble_eq_true rfl)) (SP_X5_holds (d := d + 25) hc15.1 hr) ?_
  intro g20 hc20 hm20
  refine xw_iret (pc := 23) .boolean dX1_holds_23 rfl ?_ (by first | rfl | (cases ‹Bool› <;> rfl) | exact xnB _)
  exact ⟨rfl, hc20.1, (hc15.2.tr (hc20.2.fr hc15.1.kao6)).sub (fun _ h => h) (Nat.le_refl _)⟩

theorem SP_X1_holdsAgain_F {d : Nat} {g : xG} {x p lk fa ka la n rr ww : Nat} {Z : xAd} {S : xMS} (hM : xMn g x p lk fa ka la Z S n rr ww) {v a b c : Int32} (hv : ¬ inR v (nI 0) (nI rr - nI 1) = true) : XM M_X1_holdsAgain (d + 71) [.ref x, .int v, .int a, .int b, .int c] g (xThr (xsz g) (xExc g 23)) := by
  have hlr := hM.P.lr
  have r16 := hM.P.wf.r16
  refine xm_of (by decide +kernel) (Nat.le_of_ble_eq_true rfl) ?_
  show XW _ _ 0 [(0, _), (1, _), (2, _), (3, _), (4, _)] [] _ _
  refine xw_aload_n (pc := 0) dX1_holdsAgain_0 0 rfl ?_
  refine xw_getS (b := p) (pc := 1) fd_X1_10 dX1_holdsAgain_1 (by first | assumption | (simp [-List.getD_eq_getElem?_getD, xE_setI, xsz_setI, xsl_setI, xtag_setI, xown_setI, xlen_setI, xE_setR, xsz_setR, xsl_setR, xtag_setR, xown_setR, xlen_setR, xE_setW, xsz_setW, xsl_setW, xtag_setW, xown_setW, xlen_setW, xi_setR, xi_setW, xr_setI, xr_setW, xww_setI, xww_setR, xi_setI, xr_setR, xww_setW, xE_new, xsz_new, xsl_new, hM.tx, hM.xp, hM.l3, xsub]; done) | (simp [-List.getD_eq_getElem?_getD, xE_setI, xsz_setI, xsl_setI, xtag_setI, xown_setI, xlen_setI, xE_setR, xsz_setR, xsl_setR, xtag_setR, xown_setR, xlen_setR, xE_setW, xsz_setW, xsl_setW, xtag_setW, xown_setW, xlen_setW, xi_setR, xi_setW, xr_setI, xr_setW, xww_setI, xww_setR, xi_setI, xr_setR, xww_setW, xE_new, xsz_new, xsl_new, hM.tx, hM.xp, hM.l3] <;> rfl)) (by simp [-List.getD_eq_getElem?_getD, xE_setI, xsz_setI, xsl_setI, xtag_setI, xown_setI, xlen_setI, xE_setR, xsz_setR, xsl_setR, xtag_setR, xown_setR, xlen_setR, xE_setW, xsz_setW, xsl_setW, xtag_setW, xown_setW, xlen_setW, xi_setR, xi_setW, xr_setI, xr_setW, xww_setI, xww_setR, xi_setI, xr_setR, xww_setW, xE_new, xsz_new, xsl_new, hM.tx, hM.xp, hM.l3]) ?_
  refine xw_iload_n (pc := 4) dX1_holdsAgain_4 1 rfl ?_
  refine xw_callX (pc := 5) (xr_V (as := [_]) ok_X2_rule rfl (by decide) q1338 q1339 q1340 (by rw [hM.P.tag]; rfl) (by rw [hM.P.tag]; rfl) dX1_holdsAgain_5 rfl rfl (Nat.le_of_ble_eq_true rfl)) (SP_X2_rule_F hM.P.pl v (by rw [hlr]; exact hv)) ?_
  exact xx_out0 rfl (by rw [xExc_tag]; decide) (by rw [xExc_tag]; decide) (by rw [xExc_own]; decide) ⟨rfl, rfl⟩

theorem SP_X1_holdsAgain_W1 {d : Nat} {g : xG} {x p lk fa ka la n rr ww : Nat} {Z : xAd} {S : xMS} (hM : xMn g x p lk fa ka la Z S n rr ww) {r : Nat} {a b c : Int32} (hr : r < rr) (hv : ¬ inR a (nI 0) (nI n - nI 1) = true) : XM M_X1_holdsAgain (d + 71) [.ref x, .int (nI r), .int a, .int b, .int c] g (xThr (xsz g) (xExc g 23)) := by
  have hlr := hM.P.lr
  have r16 := hM.P.wf.r16
  refine xm_of (by decide +kernel) (Nat.le_of_ble_eq_true rfl) ?_
  show XW _ _ 0 [(0, _), (1, _), (2, _), (3, _), (4, _)] [] _ _
  refine xw_aload_n (pc := 0) dX1_holdsAgain_0 0 rfl ?_
  refine xw_getS (b := p) (pc := 1) fd_X1_10 dX1_holdsAgain_1 (by first | assumption | (simp [-List.getD_eq_getElem?_getD, xE_setI, xsz_setI, xsl_setI, xtag_setI, xown_setI, xlen_setI, xE_setR, xsz_setR, xsl_setR, xtag_setR, xown_setR, xlen_setR, xE_setW, xsz_setW, xsl_setW, xtag_setW, xown_setW, xlen_setW, xi_setR, xi_setW, xr_setI, xr_setW, xww_setI, xww_setR, xi_setI, xr_setR, xww_setW, xE_new, xsz_new, xsl_new, hM.tx, hM.xp, hM.l3, xsub]; done) | (simp [-List.getD_eq_getElem?_getD, xE_setI, xsz_setI, xsl_setI, xtag_setI, xown_setI, xlen_setI, xE_setR, xsz_setR, xsl_setR, xtag_setR, xown_setR, xlen_setR, xE_setW, xsz_setW, xsl_setW, xtag_setW, xown_setW, xlen_setW, xi_setR, xi_setW, xr_setI, xr_setW, xww_setI, xww_setR, xi_setI, xr_setR, xww_setW, xE_new, xsz_new, xsl_new, hM.tx, hM.xp, hM.l3] <;> rfl)) (by simp [-List.getD_eq_getElem?_getD, xE_setI, xsz_setI, xsl_setI, xtag_setI, xown_setI, xlen_setI, xE_setR, xsz_setR, xsl_setR, xtag_setR, xown_setR, xlen_setR, xE_setW, xsz_setW, xsl_setW, xtag_setW, xown_setW, xlen_setW, xi_setR, xi_setW, xr_setI, xr_setW, xww_setI, xww_setR, xi_setI, xr_setR, xww_setW, xE_new, xsz_new, xsl_new, hM.tx, hM.xp, hM.l3]) ?_
  refine xw_iload_n (pc := 4) dX1_holdsAgain_4 1 rfl ?_
  refine xw_callV (pc := 5) (xr_V (as := [_]) ok_X2_rule rfl (by decide) q1338 q1339 q1340 (by rw [hM.P.tag]; rfl) (by rw [hM.P.tag]; rfl) dX1_holdsAgain_5 rfl rfl (Nat.le_of_ble_eq_true rfl)) (SP_X2_rule hM.P.pl r (by omega) (hM.P.ru hr).1) ?_
  refine xw_astore (l' := [(5, _), (0, _), (1, _), (2, _), (3, _), (4, _)]) (pc := 8) dX1_holdsAgain_8 (by decide) rfl ?_
  refine xw_aload_n (pc := 10) dX1_holdsAgain_10 1 rfl ?_
  refine xw_iload_n (pc := 11) dX1_holdsAgain_11 3 rfl ?_
  refine xw_iload_n (pc := 12) dX1_holdsAgain_12 4 rfl ?_
  refine xw_iload (pc := 13) dX1_holdsAgain_13 5 rfl ?_
  refine xw_callX (pc := 15) (xr_V (as := [_, _, _]) ok_X1_looked rfl (by decide) q1512 q1514 qs26 (by rw [hM.tx]; rfl) (by rw [hM.tx]; rfl) dX1_holdsAgain_15 rfl rfl (Nat.le_of_ble_eq_true rfl)) (SP_X1_looked_F1 hM.tx hM.xp hM.P hv) ?_
  exact xx_out0 rfl (by rw [xExc_tag]; decide) (by rw [xExc_tag]; decide) (by rw [xExc_own]; decide) ⟨rfl, rfl⟩

theorem SP_X1_holdsAgain_W2 {d : Nat} {g : xG} {x p lk fa ka la n rr ww : Nat} {Z : xAd} {S : xMS} (hM : xMn g x p lk fa ka la Z S n rr ww) {r k : Nat} {b c : Int32} (hr : r < rr) (hk : k < n) (hcs : isCs b c = false) : XM M_X1_holdsAgain (d + 71) [.ref x, .int (nI r), .int (nI k), .int b, .int c] g (xThr (xsz g) (xExc g 22)) := by
  have hlr := hM.P.lr
  have r16 := hM.P.wf.r16
  refine xm_of (by decide +kernel) (Nat.le_of_ble_eq_true rfl) ?_
  show XW _ _ 0 [(0, _), (1, _), (2, _), (3, _), (4, _)] [] _ _
  refine xw_aload_n (pc := 0) dX1_holdsAgain_0 0 rfl ?_
  refine xw_getS (b := p) (pc := 1) fd_X1_10 dX1_holdsAgain_1 (by first | assumption | (simp [-List.getD_eq_getElem?_getD, xE_setI, xsz_setI, xsl_setI, xtag_setI, xown_setI, xlen_setI, xE_setR, xsz_setR, xsl_setR, xtag_setR, xown_setR, xlen_setR, xE_setW, xsz_setW, xsl_setW, xtag_setW, xown_setW, xlen_setW, xi_setR, xi_setW, xr_setI, xr_setW, xww_setI, xww_setR, xi_setI, xr_setR, xww_setW, xE_new, xsz_new, xsl_new, hM.tx, hM.xp, hM.l3, xsub]; done) | (simp [-List.getD_eq_getElem?_getD, xE_setI, xsz_setI, xsl_setI, xtag_setI, xown_setI, xlen_setI, xE_setR, xsz_setR, xsl_setR, xtag_setR, xown_setR, xlen_setR, xE_setW, xsz_setW, xsl_setW, xtag_setW, xown_setW, xlen_setW, xi_setR, xi_setW, xr_setI, xr_setW, xww_setI, xww_setR, xi_setI, xr_setR, xww_setW, xE_new, xsz_new, xsl_new, hM.tx, hM.xp, hM.l3] <;> rfl)) (by simp [-List.getD_eq_getElem?_getD, xE_setI, xsz_setI, xsl_setI, xtag_setI, xown_setI, xlen_setI, xE_setR, xsz_setR, xsl_setR, xtag_setR, xown_setR, xlen_setR, xE_setW, xsz_setW, xsl_setW, xtag_setW, xown_setW, xlen_setW, xi_setR, xi_setW, xr_setI, xr_setW, xww_setI, xww_setR, xi_setI, xr_setR, xww_setW, xE_new, xsz_new, xsl_new, hM.tx, hM.xp, hM.l3]) ?_
  refine xw_iload_n (pc := 4) dX1_holdsAgain_4 1 rfl ?_
  refine xw_callV (pc := 5) (xr_V (as := [_]) ok_X2_rule rfl (by decide) q1338 q1339 q1340 (by rw [hM.P.tag]; rfl) (by rw [hM.P.tag]; rfl) dX1_holdsAgain_5 rfl rfl (Nat.le_of_ble_eq_true rfl)) (SP_X2_rule hM.P.pl r (by omega) (hM.P.ru hr).1) ?_
  refine xw_astore (l' := [(5, _), (0, _), (1, _), (2, _), (3, _), (4, _)]) (pc := 8) dX1_holdsAgain_8 (by decide) rfl ?_
  refine xw_aload_n (pc := 10) dX1_holdsAgain_10 1 rfl ?_
  refine xw_iload_n (pc := 11) dX1_holdsAgain_11 3 rfl ?_
  refine xw_iload_n (pc := 12) dX1_holdsAgain_12 4 rfl ?_
  refine xw_iload (pc := 13) dX1_holdsAgain_13 5 rfl ?_
  refine xw_callX (pc := 15) (xr_V (as := [_, _, _]) ok_X1_looked rfl (by decide) q1512 q1514 qs26 (by rw [hM.tx]; rfl) (by rw [hM.tx]; rfl) dX1_holdsAgain_15 rfl rfl (Nat.le_of_ble_eq_true rfl)) (SP_X1_looked_F2 hM.tx hM.xp hM.P hk hcs) ?_
  exact xx_out0 rfl (by rw [xExc_tag]; decide) (by rw [xExc_tag]; decide) (by rw [xExc_own]; decide) ⟨rfl, rfl⟩

theorem SP_X1_holdsAgain {d : Nat} {g : xG} {x p lk fa ka la n rr ww : Nat} {Z : xAd} {S : xMS} (hM : xMn g x p lk fa ka la Z S n rr ww) {r : Nat} {k : Nat} {day feats : Int32} (hk : k < n) (hcs : isCs day feats = true) (hr : r < rr) : XM M_X1_holdsAgain (d + 71) [.ref x, .int (nI r), .int (nI k), .int day, .int feats] g (xVal (.int (bI ((hld (isPa (S 1)) rr (cov (S 1) (-1) k day feats)) r))) (fun g' => xCs g' x lk fa ka la p Z (S 1) n rr ww k day feats (-1) (hld (isPa (S 1)) rr (cov (S 1) (-1) k day feats)) ∧ xFr (oEq 6) 0 g g')) := by
  have hlr := hM.P.lr
  have r16 := hM.P.wf.r16
  refine xm_of (by decide +kernel) (Nat.le_of_ble_eq_true rfl) ?_
  show XW _ _ 0 [(0, _), (1, _), (2, _), (3, _), (4, _)] [] _ _
  refine xw_aload_n (pc := 0) dX1_holdsAgain_0 0 rfl ?_
  refine xw_getS (b := p) (pc := 1) fd_X1_10 dX1_holdsAgain_1 (by first | assumption | (simp [-List.getD_eq_getElem?_getD, xE_setI, xsz_setI, xsl_setI, xtag_setI, xown_setI, xlen_setI, xE_setR, xsz_setR, xsl_setR, xtag_setR, xown_setR, xlen_setR, xE_setW, xsz_setW, xsl_setW, xtag_setW, xown_setW, xlen_setW, xi_setR, xi_setW, xr_setI, xr_setW, xww_setI, xww_setR, xi_setI, xr_setR, xww_setW, xE_new, xsz_new, xsl_new, hM.tx, hM.xp, hM.l3, xsub]; done) | (simp [-List.getD_eq_getElem?_getD, xE_setI, xsz_setI, xsl_setI, xtag_setI, xown_setI, xlen_setI, xE_setR, xsz_setR, xsl_setR, xtag_setR, xown_setR, xlen_setR, xE_setW, xsz_setW, xsl_setW, xtag_setW, xown_setW, xlen_setW, xi_setR, xi_setW, xr_setI, xr_setW, xww_setI, xww_setR, xi_setI, xr_setR, xww_setW, xE_new, xsz_new, xsl_new, hM.tx, hM.xp, hM.l3] <;> rfl)) (by simp [-List.getD_eq_getElem?_getD, xE_setI, xsz_setI, xsl_setI, xtag_setI, xown_setI, xlen_setI, xE_setR, xsz_setR, xsl_setR, xtag_setR, xown_setR, xlen_setR, xE_setW, xsz_setW, xsl_setW, xtag_setW, xown_setW, xlen_setW, xi_setR, xi_setW, xr_setI, xr_setW, xww_setI, xww_setR, xi_setI, xr_setR, xww_setW, xE_new, xsz_new, xsl_new, hM.tx, hM.xp, hM.l3]) ?_
  refine xw_iload_n (pc := 4) dX1_holdsAgain_4 1 rfl ?_
  refine xw_callV (pc := 5) (xr_V (as := [_]) ok_X2_rule rfl (by decide) q1338 q1339 q1340 (by rw [hM.P.tag]; rfl) (by rw [hM.P.tag]; rfl) dX1_holdsAgain_5 rfl rfl (Nat.le_of_ble_eq_true rfl)) (SP_X2_rule hM.P.pl r (by omega) (hM.P.ru hr).1) ?_
  refine xw_astore (l' := [(5, _), (0, _), (1, _), (2, _), (3, _), (4, _)]) (pc := 8) dX1_holdsAgain_8 (by decide) rfl ?_
  refine xw_aload_n (pc := 10) dX1_holdsAgain_10 1 rfl ?_
  refine xw_iload_n (pc := 11) dX1_holdsAgain_11 3 rfl ?_
  refine xw_iload_n (pc := 12) dX1_holdsAgain_12 4 rfl ?_
  refine xw_iload (pc := 13) dX1_holdsAgain_13 5 rfl ?_
  refine xw_callF (pc := 15) (xr_V (as := [_, _, _]) ok_X1_looked rfl (by decide) q1512 q1514 qs26 (by rw [hM.tx]; rfl) (by rw [hM.tx]; rfl) dX1_holdsAgain_15 rfl rfl (Nat.le_of_ble_eq_true rfl)) (SP_X1_looked hM.tx hM.ox hM.xp hM.P hM.l3 hM.B hk hcs) ?_
  intro g15 hc15 hm15
  refine xw_aload (pc := 18) dX1_holdsAgain_18 0 rfl ?_
  refine xw_callV (pc := 20) (xr_V (as := [_]) ok_X5_holdsAgain rfl (by decide) q1537 q1538 q1539 (by first | (rw [hc15.1.lt]; rfl) | (rw [hM.B.lt]; rfl)) (by first | (rw [hc15.1.lt]; rfl) | (rw [hM.B.lt]; rfl)) dX1_holdsAgain_20 rfl rfl (Nat.le_of_ble_eq_true rfl)) (SP_X5_holdsAgain (d := d + 57) hc15.1 hr) ?_
  refine xw_iret (pc := 23) .boolean dX1_holdsAgain_23 rfl ?_ (by first | rfl | (cases ‹Bool› <;> rfl) | exact xnB _)
  exact ⟨rfl, hc15⟩

theorem SP_X1_outcome_W1 {d : Nat} {g : xG} {x p lk fa ka la n rr ww : Nat} {Z : xAd} {S : xMS} (hM : xMn g x p lk fa ka la Z S n rr ww) {a b c : Int32} (hv : ¬ inR a (nI 0) (nI n - nI 1) = true) : XM M_X1_outcome (d + 71) [.ref x, .int a, .int b, .int c] g (xThr (xsz g) (xExc g 23)) := by
  refine xm_of (by decide +kernel) (Nat.le_of_ble_eq_true rfl) ?_
  show XW _ _ 0 [(0, _), (1, _), (2, _), (3, _)] [] _ _
  refine xw_aload_n (pc := 0) dX1_outcome_0 0 rfl ?_
  refine xw_iload_n (pc := 1) dX1_outcome_1 1 rfl ?_
  refine xw_iload_n (pc := 2) dX1_outcome_2 2 rfl ?_
  refine xw_iload_n (pc := 3) dX1_outcome_3 3 rfl ?_
  refine xw_callX (pc := 4) (xr_V (as := [_, _, _]) ok_X1_looked rfl (by decide) q1512 q1514 qs26 (by rw [hM.tx]; rfl) (by rw [hM.tx]; rfl) dX1_outcome_4 rfl rfl (Nat.le_of_ble_eq_true rfl)) (SP_X1_looked_F1 hM.tx hM.xp hM.P hv) ?_
  exact xx_out0 rfl (by rw [xExc_tag]; decide) (by rw [xExc_tag]; decide) (by rw [xExc_own]; decide) ⟨rfl, rfl⟩

theorem SP_X1_outcome_W2 {d : Nat} {g : xG} {x p lk fa ka la n rr ww : Nat} {Z : xAd} {S : xMS} (hM : xMn g x p lk fa ka la Z S n rr ww) {k : Nat} {b c : Int32} (hk : k < n) (hcs : isCs b c = false) : XM M_X1_outcome (d + 71) [.ref x, .int (nI k), .int b, .int c] g (xThr (xsz g) (xExc g 22)) := by
  refine xm_of (by decide +kernel) (Nat.le_of_ble_eq_true rfl) ?_
  show XW _ _ 0 [(0, _), (1, _), (2, _), (3, _)] [] _ _
  refine xw_aload_n (pc := 0) dX1_outcome_0 0 rfl ?_
  refine xw_iload_n (pc := 1) dX1_outcome_1 1 rfl ?_
  refine xw_iload_n (pc := 2) dX1_outcome_2 2 rfl ?_
  refine xw_iload_n (pc := 3) dX1_outcome_3 3 rfl ?_
  refine xw_callX (pc := 4) (xr_V (as := [_, _, _]) ok_X1_looked rfl (by decide) q1512 q1514 qs26 (by rw [hM.tx]; rfl) (by rw [hM.tx]; rfl) dX1_outcome_4 rfl rfl (Nat.le_of_ble_eq_true rfl)) (SP_X1_looked_F2 hM.tx hM.xp hM.P hk hcs) ?_
  exact xx_out0 rfl (by rw [xExc_tag]; decide) (by rw [xExc_tag]; decide) (by rw [xExc_own]; decide) ⟨rfl, rfl⟩

theorem SP_X1_chain_W1 {d : Nat} {g : xG} {x p lk fa ka la n rr ww : Nat} {Z : xAd} {S : xMS} (hM : xMn g x p lk fa ka la Z S n rr ww) {a b c e : Int32} (hv : ¬ inR a (nI 0) (nI n - nI 1) = true) : XM M_X1_chain (d + 71) [.ref x, .int a, .int b, .int c, .int e] g (xThr (xsz g) (xExc g 23)) := by
  refine xm_of (by decide +kernel) (Nat.le_of_ble_eq_true rfl) ?_
  show XW _ _ 0 [(0, _), (1, _), (2, _), (3, _), (4, _)] [] _ _
  refine xw_aload_n (pc := 0) dX1_chain_0 0 rfl ?_
  refine xw_iload_n (pc := 1) dX1_chain_1 1 rfl ?_
  refine xw_iload_n (pc := 2) dX1_chain_2 2 rfl ?_
  refine xw_iload_n (pc := 3) dX1_chain_3 3 rfl ?_
  refine xw_callX (pc := 4) (xr_V (as := [_, _, _]) ok_X1_looked rfl (by decide) q1512 q1514 qs26 (by rw [hM.tx]; rfl) (by rw [hM.tx]; rfl) dX1_chain_4 rfl rfl (Nat.le_of_ble_eq_true rfl)) (SP_X1_looked_F1 hM.tx hM.xp hM.P hv) ?_
  exact xx_out0 rfl (by rw [xExc_tag]; decide) (by rw [xExc_tag]; decide) (by rw [xExc_own]; decide) ⟨rfl, rfl⟩

theorem SP_X1_chain_W2 {d : Nat} {g : xG} {x p lk fa ka la n rr ww : Nat} {Z : xAd} {S : xMS} (hM : xMn g x p lk fa ka la Z S n rr ww) {k : Nat} {b c e : Int32} (hk : k < n) (hcs : isCs b c = false) : XM M_X1_chain (d + 71) [.ref x, .int (nI k), .int b, .int c, .int e] g (xThr (xsz g) (xExc g 22)) := by
  refine xm_of (by decide +kernel) (Nat.le_of_ble_eq_true rfl) ?_
  show XW _ _ 0 [(0, _), (1, _), (2, _), (3, _), (4, _)] [] _ _
  refine xw_aload_n (pc := 0) dX1_chain_0 0 rfl ?_
  refine xw_iload_n (pc := 1) dX1_chain_1 1 rfl ?_
  refine xw_iload_n (pc := 2) dX1_chain_2 2 rfl ?_
  refine xw_iload_n (pc := 3) dX1_chain_3 3 rfl ?_
  refine xw_callX (pc := 4) (xr_V (as := [_, _, _]) ok_X1_looked rfl (by decide) q1512 q1514 qs26 (by rw [hM.tx]; rfl) (by rw [hM.tx]; rfl) dX1_chain_4 rfl rfl (Nat.le_of_ble_eq_true rfl)) (SP_X1_looked_F2 hM.tx hM.xp hM.P hk hcs) ?_
  exact xx_out0 rfl (by rw [xExc_tag]; decide) (by rw [xExc_tag]; decide) (by rw [xExc_own]; decide) ⟨rfl, rfl⟩

theorem SP_X1_rival_W1 {d : Nat} {g : xG} {x p lk fa ka la n rr ww : Nat} {Z : xAd} {S : xMS} (hM : xMn g x p lk fa ka la Z S n rr ww) {a b c e : Int32} (hv : ¬ inR a (nI 0) (nI n - nI 1) = true) : XM M_X1_rival (d + 71) [.ref x, .int a, .int b, .int c, .int e] g (xThr (xsz g) (xExc g 23)) := by
  refine xm_of (by decide +kernel) (Nat.le_of_ble_eq_true rfl) ?_
  show XW _ _ 0 [(0, _), (1, _), (2, _), (3, _), (4, _)] [] _ _
  refine xw_aload_n (pc := 0) dX1_rival_0 0 rfl ?_
  refine xw_iload_n (pc := 1) dX1_rival_1 1 rfl ?_
  refine xw_iload_n (pc := 2) dX1_rival_2 2 rfl ?_
  refine xw_iload_n (pc := 3) dX1_rival_3 3 rfl ?_
  refine xw_callX (pc := 4) (xr_V (as := [_, _, _]) ok_X1_looked rfl (by decide) q1512 q1514 qs26 (by rw [hM.tx]; rfl) (by rw [hM.tx]; rfl) dX1_rival_4 rfl rfl (Nat.le_of_ble_eq_true rfl)) (SP_X1_looked_F1 hM.tx hM.xp hM.P hv) ?_
  exact xx_out0 rfl (by rw [xExc_tag]; decide) (by rw [xExc_tag]; decide) (by rw [xExc_own]; decide) ⟨rfl, rfl⟩

theorem SP_X1_rival_W2 {d : Nat} {g : xG} {x p lk fa ka la n rr ww : Nat} {Z : xAd} {S : xMS} (hM : xMn g x p lk fa ka la Z S n rr ww) {k : Nat} {b c e : Int32} (hk : k < n) (hcs : isCs b c = false) : XM M_X1_rival (d + 71) [.ref x, .int (nI k), .int b, .int c, .int e] g (xThr (xsz g) (xExc g 22)) := by
  refine xm_of (by decide +kernel) (Nat.le_of_ble_eq_true rfl) ?_
  show XW _ _ 0 [(0, _), (1, _), (2, _), (3, _), (4, _)] [] _ _
  refine xw_aload_n (pc := 0) dX1_rival_0 0 rfl ?_
  refine xw_iload_n (pc := 1) dX1_rival_1 1 rfl ?_
  refine xw_iload_n (pc := 2) dX1_rival_2 2 rfl ?_
  refine xw_iload_n (pc := 3) dX1_rival_3 3 rfl ?_
  refine xw_callX (pc := 4) (xr_V (as := [_, _, _]) ok_X1_looked rfl (by decide) q1512 q1514 qs26 (by rw [hM.tx]; rfl) (by rw [hM.tx]; rfl) dX1_rival_4 rfl rfl (Nat.le_of_ble_eq_true rfl)) (SP_X1_looked_F2 hM.tx hM.xp hM.P hk hcs) ?_
  exact xx_out0 rfl (by rw [xExc_tag]; decide) (by rw [xExc_tag]; decide) (by rw [xExc_own]; decide) ⟨rfl, rfl⟩

theorem SP_X1_nextChange_W1 {d : Nat} {g : xG} {x p lk fa ka la n rr ww : Nat} {Z : xAd} {S : xMS} (hM : xMn g x p lk fa ka la Z S n rr ww) {a b c : Int32} (hv : ¬ inR a (nI 0) (nI n - nI 1) = true) : XM M_X1_nextChange (d + 71) [.ref x, .int a, .int b, .int c] g (xThr (xsz g) (xExc g 23)) := by
  refine xm_of (by decide +kernel) (Nat.le_of_ble_eq_true rfl) ?_
  show XW _ _ 0 [(0, _), (1, _), (2, _), (3, _)] [] _ _
  refine xw_aload_n (pc := 0) dX1_nextChange_0 0 rfl ?_
  refine xw_iload_n (pc := 1) dX1_nextChange_1 1 rfl ?_
  refine xw_iload_n (pc := 2) dX1_nextChange_2 2 rfl ?_
  refine xw_iload_n (pc := 3) dX1_nextChange_3 3 rfl ?_
  refine xw_callX (pc := 4) (xr_V (as := [_, _, _]) ok_X1_looked rfl (by decide) q1512 q1514 qs26 (by rw [hM.tx]; rfl) (by rw [hM.tx]; rfl) dX1_nextChange_4 rfl rfl (Nat.le_of_ble_eq_true rfl)) (SP_X1_looked_F1 hM.tx hM.xp hM.P hv) ?_
  exact xx_out0 rfl (by rw [xExc_tag]; decide) (by rw [xExc_tag]; decide) (by rw [xExc_own]; decide) ⟨rfl, rfl⟩

theorem SP_X1_nextChange_W2 {d : Nat} {g : xG} {x p lk fa ka la n rr ww : Nat} {Z : xAd} {S : xMS} (hM : xMn g x p lk fa ka la Z S n rr ww) {k : Nat} {b c : Int32} (hk : k < n) (hcs : isCs b c = false) : XM M_X1_nextChange (d + 71) [.ref x, .int (nI k), .int b, .int c] g (xThr (xsz g) (xExc g 22)) := by
  refine xm_of (by decide +kernel) (Nat.le_of_ble_eq_true rfl) ?_
  show XW _ _ 0 [(0, _), (1, _), (2, _), (3, _)] [] _ _
  refine xw_aload_n (pc := 0) dX1_nextChange_0 0 rfl ?_
  refine xw_iload_n (pc := 1) dX1_nextChange_1 1 rfl ?_
  refine xw_iload_n (pc := 2) dX1_nextChange_2 2 rfl ?_
  refine xw_iload_n (pc := 3) dX1_nextChange_3 3 rfl ?_
  refine xw_callX (pc := 4) (xr_V (as := [_, _, _]) ok_X1_looked rfl (by decide) q1512 q1514 qs26 (by rw [hM.tx]; rfl) (by rw [hM.tx]; rfl) dX1_nextChange_4 rfl rfl (Nat.le_of_ble_eq_true rfl)) (SP_X1_looked_F2 hM.tx hM.xp hM.P hk hcs) ?_
  exact xx_out0 rfl (by rw [xExc_tag]; decide) (by rw [xExc_tag]; decide) (by rw [xExc_own]; decide) ⟨rfl, rfl⟩

theorem SP_X1_burden_W1 {d : Nat} {g : xG} {x p lk fa ka la n rr ww : Nat} {Z : xAd} {S : xMS} (hM : xMn g x p lk fa ka la Z S n rr ww) {a b c : Int32} (hv : ¬ inR a (nI 0) (nI n - nI 1) = true) : XM M_X1_burden (d + 71) [.ref x, .int a, .int b, .int c] g (xThr (xsz g) (xExc g 23)) := by
  refine xm_of (by decide +kernel) (Nat.le_of_ble_eq_true rfl) ?_
  show XW _ _ 0 [(0, _), (1, _), (2, _), (3, _)] [] _ _
  refine xw_aload_n (pc := 0) dX1_burden_0 0 rfl ?_
  refine xw_iload_n (pc := 1) dX1_burden_1 1 rfl ?_
  refine xw_iload_n (pc := 2) dX1_burden_2 2 rfl ?_
  refine xw_iload_n (pc := 3) dX1_burden_3 3 rfl ?_
  refine xw_callX (pc := 4) (xr_V (as := [_, _, _]) ok_X1_looked rfl (by decide) q1512 q1514 qs26 (by rw [hM.tx]; rfl) (by rw [hM.tx]; rfl) dX1_burden_4 rfl rfl (Nat.le_of_ble_eq_true rfl)) (SP_X1_looked_F1 hM.tx hM.xp hM.P hv) ?_
  exact xx_out0 rfl (by rw [xExc_tag]; decide) (by rw [xExc_tag]; decide) (by rw [xExc_own]; decide) ⟨rfl, rfl⟩

theorem SP_X1_burden_W2 {d : Nat} {g : xG} {x p lk fa ka la n rr ww : Nat} {Z : xAd} {S : xMS} (hM : xMn g x p lk fa ka la Z S n rr ww) {k : Nat} {b c : Int32} (hk : k < n) (hcs : isCs b c = false) : XM M_X1_burden (d + 71) [.ref x, .int (nI k), .int b, .int c] g (xThr (xsz g) (xExc g 22)) := by
  refine xm_of (by decide +kernel) (Nat.le_of_ble_eq_true rfl) ?_
  show XW _ _ 0 [(0, _), (1, _), (2, _), (3, _)] [] _ _
  refine xw_aload_n (pc := 0) dX1_burden_0 0 rfl ?_
  refine xw_iload_n (pc := 1) dX1_burden_1 1 rfl ?_
  refine xw_iload_n (pc := 2) dX1_burden_2 2 rfl ?_
  refine xw_iload_n (pc := 3) dX1_burden_3 3 rfl ?_
  refine xw_callX (pc := 4) (xr_V (as := [_, _, _]) ok_X1_looked rfl (by decide) q1512 q1514 qs26 (by rw [hM.tx]; rfl) (by rw [hM.tx]; rfl) dX1_burden_4 rfl rfl (Nat.le_of_ble_eq_true rfl)) (SP_X1_looked_F2 hM.tx hM.xp hM.P hk hcs) ?_
  exact xx_out0 rfl (by rw [xExc_tag]; decide) (by rw [xExc_tag]; decide) (by rw [xExc_own]; decide) ⟨rfl, rfl⟩

theorem SP_X1_percent_W1 {d : Nat} {g : xG} {x p lk fa ka la n rr ww : Nat} {Z : xAd} {S : xMS} (hM : xMn g x p lk fa ka la Z S n rr ww) {a b c : Int32} (hv : ¬ inR a (nI 0) (nI n - nI 1) = true) : XM M_X1_percent (d + 71) [.ref x, .int a, .int b, .int c] g (xThr (xsz g) (xExc g 23)) := by
  refine xm_of (by decide +kernel) (Nat.le_of_ble_eq_true rfl) ?_
  show XW _ _ 0 [(0, _), (1, _), (2, _), (3, _)] [] _ _
  refine xw_aload_n (pc := 0) dX1_percent_0 0 rfl ?_
  refine xw_iload_n (pc := 1) dX1_percent_1 1 rfl ?_
  refine xw_iload_n (pc := 2) dX1_percent_2 2 rfl ?_
  refine xw_iload_n (pc := 3) dX1_percent_3 3 rfl ?_
  refine xw_callX (pc := 4) (xr_V (as := [_, _, _]) ok_X1_looked rfl (by decide) q1512 q1514 qs26 (by rw [hM.tx]; rfl) (by rw [hM.tx]; rfl) dX1_percent_4 rfl rfl (Nat.le_of_ble_eq_true rfl)) (SP_X1_looked_F1 hM.tx hM.xp hM.P hv) ?_
  exact xx_out0 rfl (by rw [xExc_tag]; decide) (by rw [xExc_tag]; decide) (by rw [xExc_own]; decide) ⟨rfl, rfl⟩

theorem SP_X1_percent_W2 {d : Nat} {g : xG} {x p lk fa ka la n rr ww : Nat} {Z : xAd} {S : xMS} (hM : xMn g x p lk fa ka la Z S n rr ww) {k : Nat} {b c : Int32} (hk : k < n) (hcs : isCs b c = false) : XM M_X1_percent (d + 71) [.ref x, .int (nI k), .int b, .int c] g (xThr (xsz g) (xExc g 22)) := by
  refine xm_of (by decide +kernel) (Nat.le_of_ble_eq_true rfl) ?_
  show XW _ _ 0 [(0, _), (1, _), (2, _), (3, _)] [] _ _
  refine xw_aload_n (pc := 0) dX1_percent_0 0 rfl ?_
  refine xw_iload_n (pc := 1) dX1_percent_1 1 rfl ?_
  refine xw_iload_n (pc := 2) dX1_percent_2 2 rfl ?_
  refine xw_iload_n (pc := 3) dX1_percent_3 3 rfl ?_
  refine xw_callX (pc := 4) (xr_V (as := [_, _, _]) ok_X1_looked rfl (by decide) q1512 q1514 qs26 (by rw [hM.tx]; rfl) (by rw [hM.tx]; rfl) dX1_percent_4 rfl rfl (Nat.le_of_ble_eq_true rfl)) (SP_X1_looked_F2 hM.tx hM.xp hM.P hk hcs) ?_
  exact xx_out0 rfl (by rw [xExc_tag]; decide) (by rw [xExc_tag]; decide) (by rw [xExc_own]; decide) ⟨rfl, rfl⟩

theorem SP_X1_explain_W1 {d : Nat} {g : xG} {x p lk fa ka la n rr ww : Nat} {Z : xAd} {S : xMS} (hM : xMn g x p lk fa ka la Z S n rr ww) {a b c : Int32} (hv : ¬ inR a (nI 0) (nI n - nI 1) = true) : XM M_X1_explain (d + 71) [.ref x, .int a, .int b, .int c] g (xThr (xsz g) (xExc g 23)) := by
  refine xm_of (by decide +kernel) (Nat.le_of_ble_eq_true rfl) ?_
  show XW _ _ 0 [(0, _), (1, _), (2, _), (3, _)] [] _ _
  refine xw_aload_n (pc := 0) dX1_explain_0 0 rfl ?_
  refine xw_iload_n (pc := 1) dX1_explain_1 1 rfl ?_
  refine xw_iload_n (pc := 2) dX1_explain_2 2 rfl ?_
  refine xw_iload_n (pc := 3) dX1_explain_3 3 rfl ?_
  refine xw_callX (pc := 4) (xr_V (as := [_, _, _]) ok_X1_looked rfl (by decide) q1512 q1514 qs26 (by rw [hM.tx]; rfl) (by rw [hM.tx]; rfl) dX1_explain_4 rfl rfl (Nat.le_of_ble_eq_true rfl)) (SP_X1_looked_F1 hM.tx hM.xp hM.P hv) ?_
  exact xx_out0 rfl (by rw [xExc_tag]; decide) (by rw [xExc_tag]; decide) (by rw [xExc_own]; decide) ⟨rfl, rfl⟩

theorem SP_X1_explain_W2 {d : Nat} {g : xG} {x p lk fa ka la n rr ww : Nat} {Z : xAd} {S : xMS} (hM : xMn g x p lk fa ka la Z S n rr ww) {k : Nat} {b c : Int32} (hk : k < n) (hcs : isCs b c = false) : XM M_X1_explain (d + 71) [.ref x, .int (nI k), .int b, .int c] g (xThr (xsz g) (xExc g 22)) := by
  refine xm_of (by decide +kernel) (Nat.le_of_ble_eq_true rfl) ?_
  show XW _ _ 0 [(0, _), (1, _), (2, _), (3, _)] [] _ _
  refine xw_aload_n (pc := 0) dX1_explain_0 0 rfl ?_
  refine xw_iload_n (pc := 1) dX1_explain_1 1 rfl ?_
  refine xw_iload_n (pc := 2) dX1_explain_2 2 rfl ?_
  refine xw_iload_n (pc := 3) dX1_explain_3 3 rfl ?_
  refine xw_callX (pc := 4) (xr_V (as := [_, _, _]) ok_X1_looked rfl (by decide) q1512 q1514 qs26 (by rw [hM.tx]; rfl) (by rw [hM.tx]; rfl) dX1_explain_4 rfl rfl (Nat.le_of_ble_eq_true rfl)) (SP_X1_looked_F2 hM.tx hM.xp hM.P hk hcs) ?_
  exact xx_out0 rfl (by rw [xExc_tag]; decide) (by rw [xExc_tag]; decide) (by rw [xExc_own]; decide) ⟨rfl, rfl⟩

theorem ocm_e {s : Nat → Int32} {n rr ww k : Nat} {H : Nat → Bool} (h : WFS s n rr ww) (hk : k < n) : ∃ e, e < 3 ∧ ocm s H rr k = nI e := by
  unfold ocm
  cases hp : prvK s H rr with
  | some b =>
    have hb := prvK_lt hp
    have hm := prvK_ma rr hp
    rcases (h.ru hb).2.2.2.2.2.2.2.1 with q | q
    · exact ⟨_, q.2.2, q.2.1⟩
    · exfalso
      have e : s (23 + 20 * b + 5) < 0 := of_decide_eq_true hm
      rw [q.1.1] at e
      exact m1lt (by have := q.1.2; have := h.r16; omega) e
  | none =>
    have key : ∀ k, k < n → ∃ e, e < 3 ∧ dfl s k = nI e := by
      intro k
      induction k using Nat.strongRecOn with
      | _ k ih =>
        intro hk
        rw [dfl]
        by_cases hc : s (4 + 2 * k) < 0 ∧ 0 < k ∧ ou s k < k
        · rw [dif_pos hc]
          exact ih _ hc.2.2 (by omega)
        · rw [dif_neg hc]
          rcases h.e.2 k hk with q | ⟨e, h1, h2⟩
          · exfalso
            by_cases h0 : k = 0
            · subst h0
              exact h.e4 (by rw [show (4 : Nat) = 4 + 2 * 0 from rfl, q]; exact neg1lt)
            · exact hc ⟨by rw [q]; exact neg1lt, by omega, (h.o.2 k (by omega) hk).2⟩
          · exact ⟨e, h1, h2⟩
    exact key k hk
theorem SP_X1_outcome {d : Nat} {g : xG} {x p lk fa ka la n rr ww : Nat} {Z : xAd} {S : xMS} (hM : xMn g x p lk fa ka la Z S n rr ww) {k : Nat} {day feats : Int32} (hk : k < n) (hcs : isCs day feats = true) : XM M_X1_outcome (d + 71) [.ref x, .int (nI k), .int day, .int feats] g (xVal (.int (ocm (S 1) (hld (isPa (S 1)) rr (cov (S 1) (-1) k day feats)) rr k)) (fun g' => xCs g' x lk fa ka la p Z (S 1) n rr ww k day feats (-1) (hld (isPa (S 1)) rr (cov (S 1) (-1) k day feats)) ∧ xFr (oEq 6) 0 g g')) := by
  refine xm_of (by decide +kernel) (Nat.le_of_ble_eq_true rfl) ?_
  show XW _ _ 0 [(0, _), (1, _), (2, _), (3, _)] [] _ _
  refine xw_aload_n (pc := 0) dX1_outcome_0 0 rfl ?_
  refine xw_iload_n (pc := 1) dX1_outcome_1 1 rfl ?_
  refine xw_iload_n (pc := 2) dX1_outcome_2 2 rfl ?_
  refine xw_iload_n (pc := 3) dX1_outcome_3 3 rfl ?_
  refine xw_callF (pc := 4) (xr_V (as := [_, _, _]) ok_X1_looked rfl (by decide) q1512 q1514 qs26 (by rw [hM.tx]; rfl) (by rw [hM.tx]; rfl) dX1_outcome_4 rfl rfl (Nat.le_of_ble_eq_true rfl)) (SP_X1_looked hM.tx hM.ox hM.xp hM.P hM.l3 hM.B hk hcs) ?_
  intro g4 hc4 hm4
  refine xw_callF (pc := 7) (xr_V (as := []) ok_X5_outcome rfl (by decide) q746 q747 q748 (by rw [hc4.1.lt]; rfl) (by rw [hc4.1.lt]; rfl) dX1_outcome_7 rfl rfl (Nat.le_of_ble_eq_true rfl)) (SP_X5_outcome (d := d + 23) hc4.1) ?_
  intro g7 hc7 hm7
  have hE7 : xCn g7 := (hM.cn.fr hc4.2 (by unfold oEq; omega)).fr (hc7.2.fr hc4.1.kao6) (by unfold oEq; omega)
  have ee : effO g4 (ocm (S 1) (hld (isPa (S 1)) rr (cov (S 1) (-1) k day feats)) rr k) = effO g7 (ocm (S 1) (hld (isPa (S 1)) rr (cov (S 1) (-1) k day feats)) rr k) := (effO_fr (hc7.2.fr hc4.1.kao6) _).symm
  rw [ee]
  refine xw_enum (pc := 10) hE7 (ocm_e hM.P.wf hk) dX1_outcome_10 q1192 (Nat.le_of_ble_eq_true rfl) ?_
  refine xw_iret (pc := 13) .int dX1_outcome_13 rfl ?_ 
  exact ⟨rfl, hc7.1, (hc4.2.tr (hc7.2.fr hc4.1.kao6)).sub (fun _ h => h) (Nat.le_refl _)⟩

