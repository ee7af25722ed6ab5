/-! CLASS 31: factors, last days, defaults -/
set_option maxRecDepth 100000
/-- owners that a change writes -/
def oCh (p z : Nat) : Nat → Prop := fun o => o = 5 ∨ o = 7 ∨ oP p o ∨ 1000 * z ≤ o
/-- the policy p's ints are s', what they were lies in the past -/
def xChd (g : xG) (p dq da : Nat) (s0 : Nat → Int32) (ps : List Nat) (s' : Nat → Int32) (n' rr' ww' : Nat) (g' : xG) : Prop := ∃ Z' h' b, xPol g' p Z' s' n' rr' ww' ∧ xsz g ≤ b ∧ xPo g' b s0 ∧ xAD g' 7 dq da h' (pastA ps b) ∧ xFr (oCh p (xsz g)) 20000 g g'
/-- the ints s with v at j -/
def sUp (s : Nat → Int32) (j : Nat) (v : Int32) : Nat → Int32 := fun i => if i = j then v else s i
theorem SP_X1_setFactor_F {d : Nat} {g : xG} {x p lk fa ka la n rr ww : Nat} {Z : xAd} {S : xMS} (hM : xMn g x p lk fa ka la Z S n rr ww) {v e : Int32} (hv : ¬ inR v (nI 0) (nI rr - nI 1) = true) : XM M_X1_setFactor (d + 80) [.ref x, .int v, .int e] g (xThr (xsz g) (xExc g 23)) := by
  have hlr := hM.P.lr
  have r16 := hM.P.wf.r16
  refine xm_of (by decide +kernel) (Nat.le_of_ble_eq_true rfl) ?_
  show XW _ _ 0 [(0, _), (1, _), (2, _)] [] _ _
  refine xw_aload_n (pc := 0) dX1_setFactor_0 0 rfl ?_
  refine xw_getS (b := p) (pc := 1) fd_X1_10 dX1_setFactor_1 (by first | assumption | (simp [-List.getD_eq_getElem?_getD, xE_setI, xsz_setI, xsl_setI, xtag_setI, xown_setI, xlen_setI, xE_setR, xsz_setR, xsl_setR, xtag_setR, xown_setR, xlen_setR, xE_setW, xsz_setW, xsl_setW, xtag_setW, xown_setW, xlen_setW, xi_setR, xi_setW, xr_setI, xr_setW, xww_setI, xww_setR, xi_setI, xr_setR, xww_setW, xE_new, xsz_new, xsl_new, hM.tx, hM.xp, hM.l3, xsub]; done) | (simp [-List.getD_eq_getElem?_getD, xE_setI, xsz_setI, xsl_setI, xtag_setI, xown_setI, xlen_setI, xE_setR, xsz_setR, xsl_setR, xtag_setR, xown_setR, xlen_setR, xE_setW, xsz_setW, xsl_setW, xtag_setW, xown_setW, xlen_setW, xi_setR, xi_setW, xr_setI, xr_setW, xww_setI, xww_setR, xi_setI, xr_setR, xww_setW, xE_new, xsz_new, xsl_new, hM.tx, hM.xp, hM.l3] <;> rfl)) (by simp [-List.getD_eq_getElem?_getD, xE_setI, xsz_setI, xsl_setI, xtag_setI, xown_setI, xlen_setI, xE_setR, xsz_setR, xsl_setR, xtag_setR, xown_setR, xlen_setR, xE_setW, xsz_setW, xsl_setW, xtag_setW, xown_setW, xlen_setW, xi_setR, xi_setW, xr_setI, xr_setW, xww_setI, xww_setR, xi_setI, xr_setR, xww_setW, xE_new, xsz_new, xsl_new, hM.tx, hM.xp, hM.l3]) ?_
  refine xw_iload_n (pc := 4) dX1_setFactor_4 1 rfl ?_
  refine xw_callX (pc := 5) (xr_V (as := [_]) ok_X2_rule rfl (by decide) q1338 q1339 q1340 (by rw [hM.P.tag]; rfl) (by rw [hM.P.tag]; rfl) dX1_setFactor_5 rfl rfl (Nat.le_of_ble_eq_true rfl)) (SP_X2_rule_F hM.P.pl v (by rw [hlr]; exact hv)) ?_
  exact xx_out0 rfl (by rw [xExc_tag]; decide) (by rw [xExc_tag]; decide) (by rw [xExc_own]; decide) ⟨rfl, rfl⟩

theorem SP_X1_end_F {d : Nat} {g : xG} {x p lk fa ka la n rr ww : Nat} {Z : xAd} {S : xMS} (hM : xMn g x p lk fa ka la Z S n rr ww) {v e : Int32} (hv : ¬ inR v (nI 0) (nI rr - nI 1) = true) : XM M_X1_end (d + 80) [.ref x, .int v, .int e] g (xThr (xsz g) (xExc g 23)) := by
  have hlr := hM.P.lr
  have r16 := hM.P.wf.r16
  refine xm_of (by decide +kernel) (Nat.le_of_ble_eq_true rfl) ?_
  show XW _ _ 0 [(0, _), (1, _), (2, _)] [] _ _
  refine xw_aload_n (pc := 0) dX1_end_0 0 rfl ?_
  refine xw_getS (b := p) (pc := 1) fd_X1_10 dX1_end_1 (by first | assumption | (simp [-List.getD_eq_getElem?_getD, xE_setI, xsz_setI, xsl_setI, xtag_setI, xown_setI, xlen_setI, xE_setR, xsz_setR, xsl_setR, xtag_setR, xown_setR, xlen_setR, xE_setW, xsz_setW, xsl_setW, xtag_setW, xown_setW, xlen_setW, xi_setR, xi_setW, xr_setI, xr_setW, xww_setI, xww_setR, xi_setI, xr_setR, xww_setW, xE_new, xsz_new, xsl_new, hM.tx, hM.xp, hM.l3, xsub]; done) | (simp [-List.getD_eq_getElem?_getD, xE_setI, xsz_setI, xsl_setI, xtag_setI, xown_setI, xlen_setI, xE_setR, xsz_setR, xsl_setR, xtag_setR, xown_setR, xlen_setR, xE_setW, xsz_setW, xsl_setW, xtag_setW, xown_setW, xlen_setW, xi_setR, xi_setW, xr_setI, xr_setW, xww_setI, xww_setR, xi_setI, xr_setR, xww_setW, xE_new, xsz_new, xsl_new, hM.tx, hM.xp, hM.l3] <;> rfl)) (by simp [-List.getD_eq_getElem?_getD, xE_setI, xsz_setI, xsl_setI, xtag_setI, xown_setI, xlen_setI, xE_setR, xsz_setR, xsl_setR, xtag_setR, xown_setR, xlen_setR, xE_setW, xsz_setW, xsl_setW, xtag_setW, xown_setW, xlen_setW, xi_setR, xi_setW, xr_setI, xr_setW, xww_setI, xww_setR, xi_setI, xr_setR, xww_setW, xE_new, xsz_new, xsl_new, hM.tx, hM.xp, hM.l3]) ?_
  refine xw_iload_n (pc := 4) dX1_end_4 1 rfl ?_
  refine xw_callX (pc := 5) (xr_V (as := [_]) ok_X2_rule rfl (by decide) q1338 q1339 q1340 (by rw [hM.P.tag]; rfl) (by rw [hM.P.tag]; rfl) dX1_end_5 rfl rfl (Nat.le_of_ble_eq_true rfl)) (SP_X2_rule_F hM.P.pl v (by rw [hlr]; exact hv)) ?_
  exact xx_out0 rfl (by rw [xExc_tag]; decide) (by rw [xExc_tag]; decide) (by rw [xExc_own]; decide) ⟨rfl, rfl⟩

theorem SP_X1_ruleOf_F {d : Nat} {g : xG} {x p lk fa ka la n rr ww : Nat} {Z : xAd} {S : xMS} (hM : xMn g x p lk fa ka la Z S n rr ww) {v e : Int32} (hv : ¬ inR v (nI 0) (nI rr - nI 1) = true) : XM M_X1_ruleOf (d + 80) [.ref x, .int v, .int e] g (xThr (xsz g) (xExc g 23)) := by
  have hlr := hM.P.lr
  have r16 := hM.P.wf.r16
  refine xm_of (by decide +kernel) (Nat.le_of_ble_eq_true rfl) ?_
  show XW _ _ 0 [(0, _), (1, _), (2, _)] [] _ _
  refine xw_aload_n (pc := 0) dX1_ruleOf_0 0 rfl ?_
  refine xw_getS (b := p) (pc := 1) fd_X1_10 dX1_ruleOf_1 (by first | assumption | (simp [-List.getD_eq_getElem?_getD, xE_setI, xsz_setI, xsl_setI, xtag_setI, xown_setI, xlen_setI, xE_setR, xsz_setR, xsl_setR, xtag_setR, xown_setR, xlen_setR, xE_setW, xsz_setW, xsl_setW, xtag_setW, xown_setW, xlen_setW, xi_setR, xi_setW, xr_setI, xr_setW, xww_setI, xww_setR, xi_setI, xr_setR, xww_setW, xE_new, xsz_new, xsl_new, hM.tx, hM.xp, hM.l3, xsub]; done) | (simp [-List.getD_eq_getElem?_getD, xE_setI, xsz_setI, xsl_setI, xtag_setI, xown_setI, xlen_setI, xE_setR, xsz_setR, xsl_setR, xtag_setR, xown_setR, xlen_setR, xE_setW, xsz_setW, xsl_setW, xtag_setW, xown_setW, xlen_setW, xi_setR, xi_setW, xr_setI, xr_setW, xww_setI, xww_setR, xi_setI, xr_setR, xww_setW, xE_new, xsz_new, xsl_new, hM.tx, hM.xp, hM.l3] <;> rfl)) (by simp [-List.getD_eq_getElem?_getD, xE_setI, xsz_setI, xsl_setI, xtag_setI, xown_setI, xlen_setI, xE_setR, xsz_setR, xsl_setR, xtag_setR, xown_setR, xlen_setR, xE_setW, xsz_setW, xsl_setW, xtag_setW, xown_setW, xlen_setW, xi_setR, xi_setW, xr_setI, xr_setW, xww_setI, xww_setR, xi_setI, xr_setR, xww_setW, xE_new, xsz_new, xsl_new, hM.tx, hM.xp, hM.l3]) ?_
  refine xw_iload_n (pc := 4) dX1_ruleOf_4 1 rfl ?_
  refine xw_callX (pc := 5) (xr_V (as := [_]) ok_X2_rule rfl (by decide) q1338 q1339 q1340 (by rw [hM.P.tag]; rfl) (by rw [hM.P.tag]; rfl) dX1_ruleOf_5 rfl rfl (Nat.le_of_ble_eq_true rfl)) (SP_X2_rule_F hM.P.pl v (by rw [hlr]; exact hv)) ?_
  exact xx_out0 rfl (by rw [xExc_tag]; decide) (by rw [xExc_tag]; decide) (by rw [xExc_own]; decide) ⟨rfl, rfl⟩

theorem SP_X1_setFactor_F2 {d : Nat} {g : xG} {x p lk fa ka la n rr ww : Nat} {Z : xAd} {S : xMS} (hM : xMn g x p lk fa ka la Z S n rr ww) {r : Nat} {e : Int32} (hr : r < rr) (he : ¬ inR e (nI 0) (nI 1000) = true) : XM M_X1_setFactor (d + 80) [.ref x, .int (nI r), .int e] g (xThr (xsz g) (xExc g 22)) := by
  have hlr := hM.P.lr
  have r16 := hM.P.wf.r16
  refine xm_of (by decide +kernel) (Nat.le_of_ble_eq_true rfl) ?_
  show XW _ _ 0 [(0, _), (1, _), (2, _)] [] _ _
  refine xw_aload_n (pc := 0) dX1_setFactor_0 0 rfl ?_
  refine xw_getS (b := p) (pc := 1) fd_X1_10 dX1_setFactor_1 (by first | assumption | (simp [-List.getD_eq_getElem?_getD, xE_setI, xsz_setI, xsl_setI, xtag_setI, xown_setI, xlen_setI, xE_setR, xsz_setR, xsl_setR, xtag_setR, xown_setR, xlen_setR, xE_setW, xsz_setW, xsl_setW, xtag_setW, xown_setW, xlen_setW, xi_setR, xi_setW, xr_setI, xr_setW, xww_setI, xww_setR, xi_setI, xr_setR, xww_setW, xE_new, xsz_new, xsl_new, hM.tx, hM.xp, hM.l3, xsub]; done) | (simp [-List.getD_eq_getElem?_getD, xE_setI, xsz_setI, xsl_setI, xtag_setI, xown_setI, xlen_setI, xE_setR, xsz_setR, xsl_setR, xtag_setR, xown_setR, xlen_setR, xE_setW, xsz_setW, xsl_setW, xtag_setW, xown_setW, xlen_setW, xi_setR, xi_setW, xr_setI, xr_setW, xww_setI, xww_setR, xi_setI, xr_setR, xww_setW, xE_new, xsz_new, xsl_new, hM.tx, hM.xp, hM.l3] <;> rfl)) (by simp [-List.getD_eq_getElem?_getD, xE_setI, xsz_setI, xsl_setI, xtag_setI, xown_setI, xlen_setI, xE_setR, xsz_setR, xsl_setR, xtag_setR, xown_setR, xlen_setR, xE_setW, xsz_setW, xsl_setW, xtag_setW, xown_setW, xlen_setW, xi_setR, xi_setW, xr_setI, xr_setW, xww_setI, xww_setR, xi_setI, xr_setR, xww_setW, xE_new, xsz_new, xsl_new, hM.tx, hM.xp, hM.l3]) ?_
  refine xw_iload_n (pc := 4) dX1_setFactor_4 1 rfl ?_
  refine xw_callV (pc := 5) (xr_V (as := [_]) ok_X2_rule rfl (by decide) q1338 q1339 q1340 (by rw [hM.P.tag]; rfl) (by rw [hM.P.tag]; rfl) dX1_setFactor_5 rfl rfl (Nat.le_of_ble_eq_true rfl)) (SP_X2_rule hM.P.pl r (by omega) (hM.P.ru hr).1) ?_
  refine xw_astore_n (l' := [(3, _), (0, _), (1, _), (2, _)]) (pc := 8) dX1_setFactor_8 rfl (by decide) rfl ?_
  refine xw_iload_n (pc := 9) dX1_setFactor_9 3 rfl ?_
  refine xw_iconst (v := nI 0) (pc := 10) dX1_setFactor_10 rfl ?_
  refine xw_sipush (v := nI 1000) (pc := 11) dX1_setFactor_11 (by decide +kernel) ?_
  refine xw_callV (pc := 14) (xr_S (as := [_, _, _]) ok_X1_isIn rfl (by decide) q1180 q784 dX1_setFactor_14 rfl rfl (Nat.le_of_ble_eq_true rfl)) (SP_X1_isInF he) ?_
  refine xw_callX (pc := 17) (xr_S (as := [_]) ok_X1_check rfl (by decide) q1181 q1182 dX1_setFactor_17 rfl rfl (Nat.le_of_ble_eq_true rfl)) (SP_X1_check_F) ?_
  exact xx_out0 rfl (by rw [xExc_tag]; decide) (by rw [xExc_tag]; decide) (by rw [xExc_own]; decide) ⟨rfl, rfl⟩

theorem SP_X1_end_F2 {d : Nat} {g : xG} {x p lk fa ka la n rr ww : Nat} {Z : xAd} {S : xMS} (hM : xMn g x p lk fa ka la Z S n rr ww) {r : Nat} {e : Int32} (hr : r < rr) (he : ¬ inR e (nI 0) (nI 999) = true) : XM M_X1_end (d + 80) [.ref x, .int (nI r), .int e] g (xThr (xsz g) (xExc g 22)) := by
  have hlr := hM.P.lr
  have r16 := hM.P.wf.r16
  refine xm_of (by decide +kernel) (Nat.le_of_ble_eq_true rfl) ?_
  show XW _ _ 0 [(0, _), (1, _), (2, _)] [] _ _
  refine xw_aload_n (pc := 0) dX1_end_0 0 rfl ?_
  refine xw_getS (b := p) (pc := 1) fd_X1_10 dX1_end_1 (by first | assumption | (simp [-List.getD_eq_getElem?_getD, xE_setI, xsz_setI, xsl_setI, xtag_setI, xown_setI, xlen_setI, xE_setR, xsz_setR, xsl_setR, xtag_setR, xown_setR, xlen_setR, xE_setW, xsz_setW, xsl_setW, xtag_setW, xown_setW, xlen_setW, xi_setR, xi_setW, xr_setI, xr_setW, xww_setI, xww_setR, xi_setI, xr_setR, xww_setW, xE_new, xsz_new, xsl_new, hM.tx, hM.xp, hM.l3, xsub]; done) | (simp [-List.getD_eq_getElem?_getD, xE_setI, xsz_setI, xsl_setI, xtag_setI, xown_setI, xlen_setI, xE_setR, xsz_setR, xsl_setR, xtag_setR, xown_setR, xlen_setR, xE_setW, xsz_setW, xsl_setW, xtag_setW, xown_setW, xlen_setW, xi_setR, xi_setW, xr_setI, xr_setW, xww_setI, xww_setR, xi_setI, xr_setR, xww_setW, xE_new, xsz_new, xsl_new, hM.tx, hM.xp, hM.l3] <;> rfl)) (by simp [-List.getD_eq_getElem?_getD, xE_setI, xsz_setI, xsl_setI, xtag_setI, xown_setI, xlen_setI, xE_setR, xsz_setR, xsl_setR, xtag_setR, xown_setR, xlen_setR, xE_setW, xsz_setW, xsl_setW, xtag_setW, xown_setW, xlen_setW, xi_setR, xi_setW, xr_setI, xr_setW, xww_setI, xww_setR, xi_setI, xr_setR, xww_setW, xE_new, xsz_new, xsl_new, hM.tx, hM.xp, hM.l3]) ?_
  refine xw_iload_n (pc := 4) dX1_end_4 1 rfl ?_
  refine xw_callV (pc := 5) (xr_V (as := [_]) ok_X2_rule rfl (by decide) q1338 q1339 q1340 (by rw [hM.P.tag]; rfl) (by rw [hM.P.tag]; rfl) dX1_end_5 rfl rfl (Nat.le_of_ble_eq_true rfl)) (SP_X2_rule hM.P.pl r (by omega) (hM.P.ru hr).1) ?_
  refine xw_astore_n (l' := [(3, _), (0, _), (1, _), (2, _)]) (pc := 8) dX1_end_8 rfl (by decide) rfl ?_
  refine xw_iload_n (pc := 9) dX1_end_9 3 rfl ?_
  refine xw_callV (pc := 10) (xr_S (as := [_]) ok_X1_isDay rfl (by decide) q1265 q1266 dX1_end_10 rfl rfl (Nat.le_of_ble_eq_true rfl)) (((Bool.eq_false_iff.mpr he) ▸ SP_X1_isDay : XM M_X1_isDay (d + 79) [.int e] g (xOne (some (.int (bI false))) g))) ?_
  refine xw_callX (pc := 13) (xr_S (as := [_]) ok_X1_check rfl (by decide) q1181 q1182 dX1_end_13 rfl rfl (Nat.le_of_ble_eq_true rfl)) (SP_X1_check_F) ?_
  exact xx_out0 rfl (by rw [xExc_tag]; decide) (by rw [xExc_tag]; decide) (by rw [xExc_own]; decide) ⟨rfl, rfl⟩

theorem SP_X1_setFactor {d : Nat} {g : xG} {x p lk fa ka la n rr ww : Nat} {Z : xAd} {S : xMS} (hM : xMn g x p lk fa ka la Z S n rr ww) {dq da h : Nat} {ps : List Nat} (hPa : xr g x 2 = some dq ∧ xAD g 7 dq da h ps ∧ True ∧ ps.length ≤ 8) {r f : Nat} (hr : r < rr) (hf : f ≤ 1000) : XM M_X1_setFactor (d + 80) [.ref x, .int (nI r), .int (nI f)] g (xVal (.int (S 1 (23 + 20 * r + 6))) (xChd g p dq da (S 1) ps (sUp (S 1) (23 + 20 * r + 6) (nI f)) n rr ww)) := by
  have hlr := hM.P.lr
  have r16 := hM.P.wf.r16
  refine xm_of (by decide +kernel) (Nat.le_of_ble_eq_true rfl) ?_
  show XW _ _ 0 [(0, _), (1, _), (2, _)] [] _ _
  refine xw_aload_n (pc := 0) dX1_setFactor_0 0 rfl ?_
  refine xw_getS (b := p) (pc := 1) fd_X1_10 dX1_setFactor_1 (by first | assumption | (simp [-List.getD_eq_getElem?_getD, xE_setI, xsz_setI, xsl_setI, xtag_setI, xown_setI, xlen_setI, xE_setR, xsz_setR, xsl_setR, xtag_setR, xown_setR, xlen_setR, xE_setW, xsz_setW, xsl_setW, xtag_setW, xown_setW, xlen_setW, xi_setR, xi_setW, xr_setI, xr_setW, xww_setI, xww_setR, xi_setI, xr_setR, xww_setW, xE_new, xsz_new, xsl_new, hM.tx, hM.xp, hM.l3, xsub]; done) | (simp [-List.getD_eq_getElem?_getD, xE_setI, xsz_setI, xsl_setI, xtag_setI, xown_setI, xlen_setI, xE_setR, xsz_setR, xsl_setR, xtag_setR, xown_setR, xlen_setR, xE_setW, xsz_setW, xsl_setW, xtag_setW, xown_setW, xlen_setW, xi_setR, xi_setW, xr_setI, xr_setW, xww_setI, xww_setR, xi_setI, xr_setR, xww_setW, xE_new, xsz_new, xsl_new, hM.tx, hM.xp, hM.l3] <;> rfl)) (by simp [-List.getD_eq_getElem?_getD, xE_setI, xsz_setI, xsl_setI, xtag_setI, xown_setI, xlen_setI, xE_setR, xsz_setR, xsl_setR, xtag_setR, xown_setR, xlen_setR, xE_setW, xsz_setW, xsl_setW, xtag_setW, xown_setW, xlen_setW, xi_setR, xi_setW, xr_setI, xr_setW, xww_setI, xww_setR, xi_setI, xr_setR, xww_setW, xE_new, xsz_new, xsl_new, hM.tx, hM.xp, hM.l3]) ?_
  refine xw_iload_n (pc := 4) dX1_setFactor_4 1 rfl ?_
  refine xw_callV (pc := 5) (xr_V (as := [_]) ok_X2_rule rfl (by decide) q1338 q1339 q1340 (by rw [hM.P.tag]; rfl) (by rw [hM.P.tag]; rfl) dX1_setFactor_5 rfl rfl (Nat.le_of_ble_eq_true rfl)) (SP_X2_rule hM.P.pl r (by omega) (hM.P.ru hr).1) ?_
  refine xw_astore_n (l' := [(3, _), (0, _), (1, _), (2, _)]) (pc := 8) dX1_setFactor_8 rfl (by decide) rfl ?_
  refine xw_iload_n (pc := 9) dX1_setFactor_9 3 rfl ?_
  refine xw_iconst (v := nI 0) (pc := 10) dX1_setFactor_10 rfl ?_
  refine xw_sipush (v := nI 1000) (pc := 11) dX1_setFactor_11 (by decide +kernel) ?_
  refine xw_callV (pc := 14) (xr_S (as := [_, _, _]) ok_X1_isIn rfl (by decide) q1180 q784 dX1_setFactor_14 rfl rfl (Nat.le_of_ble_eq_true rfl)) (SP_X1_isInT (inR_nat' (by decide) hf)) ?_
  refine xw_callU (pc := 17) (xr_S (as := [_]) ok_X1_check rfl (by decide) q1181 q1182 dX1_setFactor_17 rfl rfl (Nat.le_of_ble_eq_true rfl)) (SP_X1_check_T) ?_
  refine xw_aload_n (pc := 20) dX1_setFactor_20 1 rfl ?_
  refine xw_getS (b := p) (pc := 21) fd_X1_10 dX1_setFactor_21 (by first | assumption | (simp [-List.getD_eq_getElem?_getD, xE_setI, xsz_setI, xsl_setI, xtag_setI, xown_setI, xlen_setI, xE_setR, xsz_setR, xsl_setR, xtag_setR, xown_setR, xlen_setR, xE_setW, xsz_setW, xsl_setW, xtag_setW, xown_setW, xlen_setW, xi_setR, xi_setW, xr_setI, xr_setW, xww_setI, xww_setR, xi_setI, xr_setR, xww_setW, xE_new, xsz_new, xsl_new, hM.tx, hM.xp, hM.l3, xsub]; done) | (simp [-List.getD_eq_getElem?_getD, xE_setI, xsz_setI, xsl_setI, xtag_setI, xown_setI, xlen_setI, xE_setR, xsz_setR, xsl_setR, xtag_setR, xown_setR, xlen_setR, xE_setW, xsz_setW, xsl_setW, xtag_setW, xown_setW, xlen_setW, xi_setR, xi_setW, xr_setI, xr_setW, xww_setI, xww_setR, xi_setI, xr_setR, xww_setW, xE_new, xsz_new, xsl_new, hM.tx, hM.xp, hM.l3] <;> rfl)) (by simp [-List.getD_eq_getElem?_getD, xE_setI, xsz_setI, xsl_setI, xtag_setI, xown_setI, xlen_setI, xE_setR, xsz_setR, xsl_setR, xtag_setR, xown_setR, xlen_setR, xE_setW, xsz_setW, xsl_setW, xtag_setW, xown_setW, xlen_setW, xi_setR, xi_setW, xr_setI, xr_setW, xww_setI, xww_setR, xi_setI, xr_setR, xww_setW, xE_new, xsz_new, xsl_new, hM.tx, hM.xp, hM.l3]) ?_
  refine xw_callF (pc := 24) (xr_V (as := []) ok_X2_copy rfl (by decide) q902 q903 q904 (by rw [hM.P.tag]; rfl) (by rw [hM.P.tag]; rfl) dX1_setFactor_24 rfl rfl (Nat.le_of_ble_eq_true rfl)) (SP_X2_copy (d := d + 70) hM.P) ?_
  intro g24 hc24 hm24
  obtain ⟨Zq, hPq, FC⟩ := hc24
  have hp0 := hM.P.p0
  have hlp := hM.P.lt
  have hxl : x < xsz g := xlt (by rw [hM.tx]; decide)
  have nxC : ¬ oP (xsz g) (xown g x) := by rw [hM.ox]; unfold oP; omega
  have oKC : oKeep (oP (xsz g)) := by unfold oKeep oP; omega
  have hP2 := hM.P.fr FC (fun o h1 h2 => by unfold oP at h1 h2; omega) (by unfold oP; omega)
  have hMc := hM.fr FC oKC hP2
  have hDc := hPa.2.1.fr FC (by unfold oP; omega)
  have tb24 : xsub 90 (xtag g24 ((aR Z).getD r 0)) = true := xRu_x (hP2.ru hr)
  have fb24 : xi g24 ((aR Z).getD r 0) 5 = S 1 (23 + 20 * r + 6) := (hP2.ru hr).2.2.2.2.2.2.1
  have ob24 : xown g24 ((aR Z).getD r 0) = 1000 * p := (hP2.rp hr).2.1
  have ob24n : ¬ xown g24 ((aR Z).getD r 0) = 0 := by rw [ob24]; omega
  refine xw_astore (l' := [(4, _), (3, _), (0, _), (1, _), (2, _)]) (pc := 27) dX1_setFactor_27 (by decide) rfl ?_
  refine xw_aload_n (pc := 29) dX1_setFactor_29 1 rfl ?_
  refine xw_getI (pc := 30) fd_X1_286 dX1_setFactor_30 (by first | assumption | (simp [-List.getD_eq_getElem?_getD, xE_setI, xsz_setI, xsl_setI, xtag_setI, xown_setI, xlen_setI, xE_setR, xsz_setR, xsl_setR, xtag_setR, xown_setR, xlen_setR, xE_setW, xsz_setW, xsl_setW, xtag_setW, xown_setW, xlen_setW, xi_setR, xi_setW, xr_setI, xr_setW, xww_setI, xww_setR, xi_setI, xr_setR, xww_setW, xE_new, xsz_new, xsl_new, hM.tx, hM.xp, hM.l3, tb24, ob24n, xsub]; done) | (simp [-List.getD_eq_getElem?_getD, xE_setI, xsz_setI, xsl_setI, xtag_setI, xown_setI, xlen_setI, xE_setR, xsz_setR, xsl_setR, xtag_setR, xown_setR, xlen_setR, xE_setW, xsz_setW, xsl_setW, xtag_setW, xown_setW, xlen_setW, xi_setR, xi_setW, xr_setI, xr_setW, xww_setI, xww_setR, xi_setI, xr_setR, xww_setW, xE_new, xsz_new, xsl_new, hM.tx, hM.xp, hM.l3, tb24, ob24n] <;> rfl)) ?_
  rw [fb24]
  refine xw_istore (l' := [(5, _), (4, _), (3, _), (0, _), (1, _), (2, _)]) (pc := 33) dX1_setFactor_33 (by decide) rfl ?_
  refine xw_aload_n (pc := 35) dX1_setFactor_35 2 rfl ?_
  refine xw_iload_n (pc := 36) dX1_setFactor_36 5 rfl ?_
  refine xw_putI (pc := 37) fd_X1_286 (xfin_of (by decide) (by decide +kernel)) dX1_setFactor_37 (by first | assumption | (simp [-List.getD_eq_getElem?_getD, xE_setI, xsz_setI, xsl_setI, xtag_setI, xown_setI, xlen_setI, xE_setR, xsz_setR, xsl_setR, xtag_setR, xown_setR, xlen_setR, xE_setW, xsz_setW, xsl_setW, xtag_setW, xown_setW, xlen_setW, xi_setR, xi_setW, xr_setI, xr_setW, xww_setI, xww_setR, xi_setI, xr_setR, xww_setW, xE_new, xsz_new, xsl_new, hM.tx, hM.xp, hM.l3, tb24, ob24n, xsub]; done) | (simp [-List.getD_eq_getElem?_getD, xE_setI, xsz_setI, xsl_setI, xtag_setI, xown_setI, xlen_setI, xE_setR, xsz_setR, xsl_setR, xtag_setR, xown_setR, xlen_setR, xE_setW, xsz_setW, xsl_setW, xtag_setW, xown_setW, xlen_setW, xi_setR, xi_setW, xr_setI, xr_setW, xww_setI, xww_setR, xi_setI, xr_setR, xww_setW, xE_new, xsz_new, xsl_new, hM.tx, hM.xp, hM.l3, tb24, ob24n] <;> rfl)) (by first | assumption | (simp [-List.getD_eq_getElem?_getD, xE_setI, xsz_setI, xsl_setI, xtag_setI, xown_setI, xlen_setI, xE_setR, xsz_setR, xsl_setR, xtag_setR, xown_setR, xlen_setR, xE_setW, xsz_setW, xsl_setW, xtag_setW, xown_setW, xlen_setW, xi_setR, xi_setW, xr_setI, xr_setW, xww_setI, xww_setR, xi_setI, xr_setR, xww_setW, xE_new, xsz_new, xsl_new, hM.tx, hM.xp, hM.l3, tb24, ob24n]; done) | (simp [-List.getD_eq_getElem?_getD, xE_setI, xsz_setI, xsl_setI, xtag_setI, xown_setI, xlen_setI, xE_setR, xsz_setR, xsl_setR, xtag_setR, xown_setR, xlen_setR, xE_setW, xsz_setW, xsl_setW, xtag_setW, xown_setW, xlen_setW, xi_setR, xi_setW, xr_setI, xr_setW, xww_setI, xww_setR, xi_setI, xr_setR, xww_setW, xE_new, xsz_new, xsl_new, hM.tx, hM.xp, hM.l3, tb24, ob24n]; assumption)) ?_
  have F2 : xFr (oP p) 0 g24 (xsetI g24 ((aR Z).getD r 0) 5 (nI f)) := xFr.rf.si (Or.inr (by rw [ob24]; exact ⟨by omega, by omega⟩))
  have hP9 : xPol (xsetI g24 ((aR Z).getD r 0) 5 (nI f)) p Z (sUp (S 1) (23 + 20 * r + 6) (nI f)) n rr ww := hP2.setRI hr (Or.inr ⟨rfl, rfl, by omega⟩) (fun j _ => rfl)
  have oKP : oKeep (oP p) := by unfold oKeep oP; omega
  have hM9 := hMc.fr (S' := fun _ => (sUp (S 1) (23 + 20 * r + 6) (nI f))) F2 oKP hP9
  have hD9 := hDc.fr F2 (by unfold oP; omega)
  have hPq9 := hPq.fr F2 (fun o h1 h2 => by unfold oP at h1 h2; omega) (by unfold oP; omega)
  have nx9 : ¬ oP p (xown g24 x) := by rw [hMc.ox]; unfold oP; omega
  have hx29 : xr (xsetI g24 ((aR Z).getD r 0) 5 (nI f)) x 2 = some dq := (F2.r' (FC.lt hxl) nx9).trans ((FC.r' hxl nxC).trans hPa.1)
  refine xw_aload_n (pc := 40) dX1_setFactor_40 3 rfl ?_
  refine xw_aload (pc := 41) dX1_setFactor_41 1 rfl ?_
  refine xw_iload (pc := 43) dX1_setFactor_43 0 rfl ?_
  refine xw_callF (pc := 45) (xr_V (as := [_, _]) ok_X1_changed rfl (by decide) q1110 q1112 qs19 (by first | (rw [hM9.tx]; rfl) | (rw [hM.tx]; rfl)) (by first | (rw [hM9.tx]; rfl) | (rw [hM.tx]; rfl)) dX1_setFactor_45 rfl rfl (Nat.le_of_ble_eq_true rfl)) (SP_X1_changed (v := S 1 (23 + 20 * r + 6)) hM9.tx hx29 hM9.ox hD9 hPa.2.2.2 hPq9.tag) ?_
  intro g45 hc45 hm45
  refine xw_iret (pc := 48) .int dX1_setFactor_48 rfl ?_ 
  exact ⟨rfl, _, _, _, hP9.fr hc45.2 (fun o h1 h2 => by unfold oP at h1; unfold oEq at h2; omega) (by unfold oEq; omega), Nat.le_refl _, ⟨_, _, _, _, hPq9.fr hc45.2 (fun o h1 h2 => by unfold oP at h1; unfold oEq at h2; omega) (by unfold oEq; omega)⟩, hc45.1.choose_spec, (((FC.sub (O' := oCh p (xsz g)) (fun o h1 => by unfold oP at h1; unfold oCh; omega) (Nat.le_refl _)).tr (F2.sub (fun o h1 => Or.inr (Or.inr (Or.inl h1))) (Nat.le_refl _))).tr (hc45.2.sub (fun o h1 => Or.inr (Or.inl h1)) (Nat.le_refl _))).sub (fun _ h => h) (by omega)⟩

/-- something goes up -/
def xUp (rs : Option Value ⊕ Nat) (g' : xG) : Prop := ∃ q, rs = .inr q ∧ 0 < xtag g' q ∧ xtag g' q < 28 ∧ xown g' q ≠ 0
/-- a call that always throws, out of a method without handlers -/
theorem xw_callY {M M' : xM} {d pc : Nat} {l : List (Nat × Value)} {rest : List Value} {g : xG} {Q P : Option Value ⊕ Nat → xG → Prop} {st0 as : List Value} (hrun : xRun M M' d pc g st0 rest as) (hc : XM M' d as g P) (hu : ∀ rs g', P rs g' → xUp rs g') (hh : M.2.2.2.2 = []) (hQ : ∀ rs g', P rs g' → Q rs g') : XW M (d + 1) pc l st0 g Q :=
  xw_call hrun hc (fun rs g2 h _ => by
    obtain ⟨q, rfl, h1, h2, h3⟩ := hu rs g2 h
    exact xx_out0 hh h1 h2 h3 (hQ _ _ h))
theorem SP_X1_refuse_N {d : Nat} {g : xG} {x wq : Nat} {v : Nat × Int32} (h : xWy g wq v) (hv : v.1 = 0) : XM M_X1_refuse (d + 1) [.ref x, .ref wq] g (xOne none g) := by
  rcases h.2.2.2 with q | q
  · exact SP_X1_refuse_T h.1 q.2
  · exact absurd hv q.1
/-- refused, for v -/
def xRef (g : xG) (x : Nat) (v : Nat × Int32) (rs : Option Value ⊕ Nat) (g' : xG) : Prop := ∃ q, rs = .inr q ∧ xtag g' q = 26 ∧ xown g' q = 9 ∧ xFr (fun o => o = 1 ∨ o = 5) 100 g g' ∧ xi g' x 4 = nI v.1 ∧ xi g' x 5 = v.2 ∧ (∀ j, j ≠ 4 → j ≠ 5 → xi g' x j = xi g x j) ∧ ∀ j, xr g' x j = xr g x j
theorem xRef_up {g : xG} {x : Nat} {v : Nat × Int32} (rs : Option Value ⊕ Nat) (g' : xG) (h : xRef g x v rs g') : xUp rs g' := by
  obtain ⟨q, e, h1, h2, -⟩ := h
  exact ⟨q, e, by omega, by omega, by omega⟩
theorem SP_X1_refuse_Y {d : Nat} {g : xG} {g0 : xG} {x wq N : Nat} {v : Nat × Int32} (h : xWy g wq v) (hv : v.1 ≠ 0) (hx : xtag g0 x = 1) (hxo : xown g0 x = 1) (F : xFr (oEq 5) N g0 g) (hN : N ≤ 90) : XM M_X1_refuse (d + 6) [.ref x, .ref wq] g (xRef g0 x v) := by
  rcases h.2.2.2 with q | ⟨-, w, w1, w2, w3, w4, w5⟩
  · exact absurd q.1 hv
  have hxl : x < xsz g0 := xlt (by rw [hx]; decide)
  have nx : ¬ oEq 5 (xown g0 x) := by rw [hxo]; unfold oEq; omega
  have tx : xtag g x = 1 := (F.tag hxl).trans hx
  have ox : xown g x = 1 := (F.own hxl).trans hxo
  refine (SP_X1_refuse_F (d := d) tx (by rw [ox]; decide) h.1 w1 w2).mono (fun rs g' hp _ => ?_)
  obtain ⟨rfl, rfl⟩ := hp
  have F2 : xFr (fun o => o = 1 ∨ o = 5) N g0 (xsetI (xsetI g x 4 (xi g w 0)) x 5 (xi g w 1)) := ((F.sub (O' := fun o => o = 1 ∨ o = 5) (fun o h1 => Or.inr h1) (Nat.le_refl _)).si (Or.inr (Or.inl ox))).si (Or.inr (Or.inl (by rw [xown_setI]; exact ox)))
  have tn : xtag g x ≠ 0 := by rw [tx]; decide
  have hc : xc (xExc (xsetI (xsetI g x 4 (xi g w 0)) x 5 (xi g w 1)) 26) x = xc (xsetI (xsetI g x 4 (xi g w 0)) x 5 (xi g w 1)) x := xExc_c (show x < xsz g from F.lt hxl)
  refine ⟨xsz g, rfl, xExc_tag (g := xsetI (xsetI g x 4 (xi g w 0)) x 5 (xi g w 1)), xExc_own (g := xsetI (xsetI g x 4 (xi g w 0)) x 5 (xi g w 1)), F2.exc.sub (fun _ h => h) (by omega), ?_, ?_, fun j h4 h5 => ?_, fun j => ?_⟩
  · rw [xi_of hc, xi_setIK (by decide), xi_setIS tn]; exact w4
  · rw [xi_of hc, xi_setIS (by rw [xtag_setI]; exact tn)]; exact w5
  · rw [xi_of hc, xi_setIK h5, xi_setIK h4]; exact F.i' hxl nx
  · rw [xr_of hc, xr_setI, xr_setI]; exact F.r' hxl nx
theorem xWy_new {g : xG} : xWy (xNew g (xBlank 8 5 1) 1) (xsz g) (0, nI 0) := ⟨by rw [xtag_newS rfl]; rfl, by rw [xown_newS rfl]; rfl, by decide, Or.inl ⟨rfl, by rw [xr_newS rfl]; rfl⟩⟩
/-- what bars a last day -/
def endW (s : Nat → Int32) (r : Nat) (e : Int32) : Nat × Int32 := if e < s (23 + 20 * r + 3) then (3, s (23 + 20 * r + 3)) else if s (23 + 20 * r + 4) < e then (8, s (23 + 20 * r + 4)) else (0, nI 0)
theorem tl_X1_end {d : Nat} {g g0 : xG} {wq N : Nat} {x p lk fa ka la n rr ww : Nat} {Z : xAd} {S : xMS} (hM : xMn g x p lk fa ka la Z S n rr ww) {dq da h : Nat} {ps : List Nat} (hPa : xr g x 2 = some dq ∧ xAD g 7 dq da h ps ∧ True ∧ ps.length ≤ 8) {r f : Nat} {a1 : Int32} {v : Nat × Int32} (hr : r < rr) (hf : f < 1000) (hw : xWy g wq v) (hv : v.1 = 0) (F0 : xFr (oEq 5) N g0 g) (hN : N ≤ 90) : XW M_X1_end (d + 80) 67 [(3, .ref ((aR Z).getD r 0)), (0, .ref x), (1, .int a1), (2, .int (nI f))] [.ref wq, .ref x] g (xVal (.int (S 1 (23 + 20 * r + 4))) (xChd g0 p dq da (S 1) ps (sUp (S 1) (23 + 20 * r + 4) (nI f)) n rr ww)) := by
  have hz : xsz g0 ≤ xsz g := F0.le
  refine xw_callU (pc := 67) (xr_V (as := [_]) ok_X1_refuse rfl (by decide) q1302 q1304 qs22 (by first | (rw [hM9.tx]; rfl) | (rw [hM.tx]; rfl)) (by first | (rw [hM9.tx]; rfl) | (rw [hM.tx]; rfl)) dX1_end_67 rfl rfl (Nat.le_of_ble_eq_true rfl)) (SP_X1_refuse_N hw hv) ?_
  refine xw_aload_n (pc := 70) dX1_end_70 1 rfl ?_
  refine xw_getS (b := p) (pc := 71) fd_X1_10 dX1_end_71 (by first | assumption | (simp [-List.getD_eq_getElem?_getD, xE_setI, xsz_setI, xsl_setI, xtag_setI, xown_setI, xlen_setI, xE_setR, xsz_setR, xsl_setR, xtag_setR, xown_setR, xlen_setR, xE_setW, xsz_setW, xsl_setW, xtag_setW, xown_setW, xlen_setW, xi_setR, xi_setW, xr_setI, xr_setW, xww_setI, xww_setR, xi_setI, xr_setR, xww_setW, xE_new, xsz_new, xsl_new, hM.tx, hM.xp, hM.l3, xsub]; done) | (simp [-List.getD_eq_getElem?_getD, xE_setI, xsz_setI, xsl_setI, xtag_setI, xown_setI, xlen_setI, xE_setR, xsz_setR, xsl_setR, xtag_setR, xown_setR, xlen_setR, xE_setW, xsz_setW, xsl_setW, xtag_setW, xown_setW, xlen_setW, xi_setR, xi_setW, xr_setI, xr_setW, xww_setI, xww_setR, xi_setI, xr_setR, xww_setW, xE_new, xsz_new, xsl_new, hM.tx, hM.xp, hM.l3] <;> rfl)) (by simp [-List.getD_eq_getElem?_getD, xE_setI, xsz_setI, xsl_setI, xtag_setI, xown_setI, xlen_setI, xE_setR, xsz_setR, xsl_setR, xtag_setR, xown_setR, xlen_setR, xE_setW, xsz_setW, xsl_setW, xtag_setW, xown_setW, xlen_setW, xi_setR, xi_setW, xr_setI, xr_setW, xww_setI, xww_setR, xi_setI, xr_setR, xww_setW, xE_new, xsz_new, xsl_new, hM.tx, hM.xp, hM.l3]) ?_
  refine xw_callF (pc := 74) (xr_V (as := []) ok_X2_copy rfl (by decide) q902 q903 q904 (by rw [hM.P.tag]; rfl) (by rw [hM.P.tag]; rfl) dX1_end_74 rfl rfl (Nat.le_of_ble_eq_true rfl)) (SP_X2_copy (d := d + 70) hM.P) ?_
  intro g74 hc74 hm74
  obtain ⟨Zq, hPq, FC⟩ := hc74
  have hp0 := hM.P.p0
  have hlp := hM.P.lt
  have hxl : x < xsz g := xlt (by rw [hM.tx]; decide)
  have nxC : ¬ oP (xsz g) (xown g x) := by rw [hM.ox]; unfold oP; omega
  have oKC : oKeep (oP (xsz g)) := by unfold oKeep oP; omega
  have hP2 := hM.P.fr FC (fun o h1 h2 => by unfold oP at h1 h2; omega) (by unfold oP; omega)
  have hMc := hM.fr FC oKC hP2
  have hDc := hPa.2.1.fr FC (by unfold oP; omega)
  have tb74 : xsub 90 (xtag g74 ((aR Z).getD r 0)) = true := xRu_x (hP2.ru hr)
  have fb74 : xi g74 ((aR Z).getD r 0) 4 = S 1 (23 + 20 * r + 4) := (hP2.ru hr).2.2.2.2.2.1
  have ob74 : xown g74 ((aR Z).getD r 0) = 1000 * p := (hP2.rp hr).2.1
  have ob74n : ¬ xown g74 ((aR Z).getD r 0) = 0 := by rw [ob74]; omega
  refine xw_astore (l' := [(4, _), (3, _), (0, _), (1, _), (2, _)]) (pc := 77) dX1_end_77 (by decide) rfl ?_
  refine xw_aload_n (pc := 79) dX1_end_79 1 rfl ?_
  refine xw_getI (pc := 80) fd_X1_291 dX1_end_80 (by first | assumption | (simp [-List.getD_eq_getElem?_getD, xE_setI, xsz_setI, xsl_setI, xtag_setI, xown_setI, xlen_setI, xE_setR, xsz_setR, xsl_setR, xtag_setR, xown_setR, xlen_setR, xE_setW, xsz_setW, xsl_setW, xtag_setW, xown_setW, xlen_setW, xi_setR, xi_setW, xr_setI, xr_setW, xww_setI, xww_setR, xi_setI, xr_setR, xww_setW, xE_new, xsz_new, xsl_new, hM.tx, hM.xp, hM.l3, tb74, ob74n, xsub]; done) | (simp [-List.getD_eq_getElem?_getD, xE_setI, xsz_setI, xsl_setI, xtag_setI, xown_setI, xlen_setI, xE_setR, xsz_setR, xsl_setR, xtag_setR, xown_setR, xlen_setR, xE_setW, xsz_setW, xsl_setW, xtag_setW, xown_setW, xlen_setW, xi_setR, xi_setW, xr_setI, xr_setW, xww_setI, xww_setR, xi_setI, xr_setR, xww_setW, xE_new, xsz_new, xsl_new, hM.tx, hM.xp, hM.l3, tb74, ob74n] <;> rfl)) ?_
  rw [fb74]
  refine xw_istore (l' := [(5, _), (4, _), (3, _), (0, _), (1, _), (2, _)]) (pc := 83) dX1_end_83 (by decide) rfl ?_
  refine xw_aload_n (pc := 85) dX1_end_85 2 rfl ?_
  refine xw_iload_n (pc := 86) dX1_end_86 5 rfl ?_
  refine xw_putI (pc := 87) fd_X1_291 (xfin_of (by decide) (by decide +kernel)) dX1_end_87 (by first | assumption | (simp [-List.getD_eq_getElem?_getD, xE_setI, xsz_setI, xsl_setI, xtag_setI, xown_setI, xlen_setI, xE_setR, xsz_setR, xsl_setR, xtag_setR, xown_setR, xlen_setR, xE_setW, xsz_setW, xsl_setW, xtag_setW, xown_setW, xlen_setW, xi_setR, xi_setW, xr_setI, xr_setW, xww_setI, xww_setR, xi_setI, xr_setR, xww_setW, xE_new, xsz_new, xsl_new, hM.tx, hM.xp, hM.l3, tb74, ob74n, xsub]; done) | (simp [-List.getD_eq_getElem?_getD, xE_setI, xsz_setI, xsl_setI, xtag_setI, xown_setI, xlen_setI, xE_setR, xsz_setR, xsl_setR, xtag_setR, xown_setR, xlen_setR, xE_setW, xsz_setW, xsl_setW, xtag_setW, xown_setW, xlen_setW, xi_setR, xi_setW, xr_setI, xr_setW, xww_setI, xww_setR, xi_setI, xr_setR, xww_setW, xE_new, xsz_new, xsl_new, hM.tx, hM.xp, hM.l3, tb74, ob74n] <;> rfl)) (by first | assumption | (simp [-List.getD_eq_getElem?_getD, xE_setI, xsz_setI, xsl_setI, xtag_setI, xown_setI, xlen_setI, xE_setR, xsz_setR, xsl_setR, xtag_setR, xown_setR, xlen_setR, xE_setW, xsz_setW, xsl_setW, xtag_setW, xown_setW, xlen_setW, xi_setR, xi_setW, xr_setI, xr_setW, xww_setI, xww_setR, xi_setI, xr_setR, xww_setW, xE_new, xsz_new, xsl_new, hM.tx, hM.xp, hM.l3, tb74, ob74n]; done) | (simp [-List.getD_eq_getElem?_getD, xE_setI, xsz_setI, xsl_setI, xtag_setI, xown_setI, xlen_setI, xE_setR, xsz_setR, xsl_setR, xtag_setR, xown_setR, xlen_setR, xE_setW, xsz_setW, xsl_setW, xtag_setW, xown_setW, xlen_setW, xi_setR, xi_setW, xr_setI, xr_setW, xww_setI, xww_setR, xi_setI, xr_setR, xww_setW, xE_new, xsz_new, xsl_new, hM.tx, hM.xp, hM.l3, tb74, ob74n]; assumption)) ?_
  have F2 : xFr (oP p) 0 g74 (xsetI g74 ((aR Z).getD r 0) 4 (nI f)) := xFr.rf.si (Or.inr (by rw [ob74]; exact ⟨by omega, by omega⟩))
  have hP9 : xPol (xsetI g74 ((aR Z).getD r 0) 4 (nI f)) p Z (sUp (S 1) (23 + 20 * r + 4) (nI f)) n rr ww := hP2.setRI hr (Or.inl ⟨rfl, rfl, by omega⟩) (fun j _ => rfl)
  have oKP : oKeep (oP p) := by unfold oKeep oP; omega
  have hM9 := hMc.fr (S' := fun _ => (sUp (S 1) (23 + 20 * r + 4) (nI f))) F2 oKP hP9
  have hD9 := hDc.fr F2 (by unfold oP; omega)
  have hPq9 := hPq.fr F2 (fun o h1 h2 => by unfold oP at h1 h2; omega) (by unfold oP; omega)
  have nx9 : ¬ oP p (xown g74 x) := by rw [hMc.ox]; unfold oP; omega
  have hx29 : xr (xsetI g74 ((aR Z).getD r 0) 4 (nI f)) x 2 = some dq := (F2.r' (FC.lt hxl) nx9).trans ((FC.r' hxl nxC).trans hPa.1)
  refine xw_aload_n (pc := 90) dX1_end_90 3 rfl ?_
  refine xw_aload (pc := 91) dX1_end_91 1 rfl ?_
  refine xw_iload (pc := 93) dX1_end_93 0 rfl ?_
  refine xw_callF (pc := 95) (xr_V (as := [_, _]) ok_X1_changed rfl (by decide) q1110 q1112 qs19 (by first | (rw [hM9.tx]; rfl) | (rw [hM.tx]; rfl)) (by first | (rw [hM9.tx]; rfl) | (rw [hM.tx]; rfl)) dX1_end_95 rfl rfl (Nat.le_of_ble_eq_true rfl)) (SP_X1_changed (v := S 1 (23 + 20 * r + 4)) hM9.tx hx29 hM9.ox hD9 hPa.2.2.2 hPq9.tag) ?_
  intro g95 hc95 hm95
  refine xw_iret (pc := 98) .int dX1_end_98 rfl ?_ 
  exact ⟨rfl, _, _, _, hP9.fr hc95.2 (fun o h1 h2 => by unfold oP at h1; unfold oEq at h2; omega) (by unfold oEq; omega), hz, ⟨_, _, _, _, hPq9.fr hc95.2 (fun o h1 h2 => by unfold oP at h1; unfold oEq at h2; omega) (by unfold oEq; omega)⟩, hc95.1.choose_spec, ((((F0.sub (O' := oCh p (xsz g0)) (fun o h1 => Or.inl h1) (Nat.le_refl _)).tr (FC.sub (fun o h1 => by unfold oP at h1; unfold oCh; omega) (Nat.le_refl _))).tr (F2.sub (fun o h1 => Or.inr (Or.inr (Or.inl h1))) (Nat.le_refl _))).tr (hc95.2.sub (fun o h1 => Or.inr (Or.inl h1)) (Nat.le_refl _))).sub (fun _ h => h) (by omega)⟩
theorem SP_X1_end {d : Nat} {g : xG} {x p lk fa ka la n rr ww : Nat} {Z : xAd} {S : xMS} (hM : xMn g x p lk fa ka la Z S n rr ww) {dq da h : Nat} {ps : List Nat} (hPa : xr g x 2 = some dq ∧ xAD g 7 dq da h ps ∧ True ∧ ps.length ≤ 8) {r f : Nat} (hr : r < rr) (hf : f < 1000) (hv : (endW (S 1) r (nI f)).1 = 0) : XM M_X1_end (d + 80) [.ref x, .int (nI r), .int (nI f)] g (xVal (.int (S 1 (23 + 20 * r + 4))) (xChd g p dq da (S 1) ps (sUp (S 1) (23 + 20 * r + 4) (nI f)) n rr ww)) := by
  have hlr := hM.P.lr
  have r16 := hM.P.wf.r16
  have b3 := (hM.P.ru hr).2.2.2.2.1
  have b4 := (hM.P.ru hr).2.2.2.2.2.1
  have tb := xRu_x (hM.P.ru hr)
  have hlb : (aR Z).getD r 0 < xsz g := xlt (by have := (hM.P.ru hr).1; omega)
  have nb : ∀ {h : xG} {N : Nat}, xFr (oEq 5) N g h → xtag h ((aR Z).getD r 0) = xtag g ((aR Z).getD r 0) ∧ ∀ j, xi h ((aR Z).getD r 0) j = xi g ((aR Z).getD r 0) j := fun F => ⟨F.tag hlb, fun j => F.i' hlb (by rw [(hM.P.rp hr).2.1]; have := hM.P.p0; unfold oEq; omega)⟩
  have FN : xFr (oEq 5) 2 g (xNew g (xBlank 8 5 1) 1) := (xFr.rf (n := 0)).nw
  have n1 := nb FN
  have tb1 : xsub 90 (xtag (xNew g (xBlank 8 5 1) 1) ((aR Z).getD r 0)) = true := by rw [n1.1]; exact tb
  refine xm_of (by decide +kernel) (Nat.le_of_ble_eq_true rfl) ?_
  show XW _ _ 0 [(0, _), (1, _), (2, _)] [] _ _
  refine xw_aload_n (pc := 0) dX1_end_0 0 rfl ?_
  refine xw_getS (b := p) (pc := 1) fd_X1_10 dX1_end_1 (by first | assumption | (simp [-List.getD_eq_getElem?_getD, xE_setI, xsz_setI, xsl_setI, xtag_setI, xown_setI, xlen_setI, xE_setR, xsz_setR, xsl_setR, xtag_setR, xown_setR, xlen_setR, xE_setW, xsz_setW, xsl_setW, xtag_setW, xown_setW, xlen_setW, xi_setR, xi_setW, xr_setI, xr_setW, xww_setI, xww_setR, xi_setI, xr_setR, xww_setW, xE_new, xsz_new, xsl_new, hM.tx, hM.xp, hM.l3, tb1, xsub]; done) | (simp [-List.getD_eq_getElem?_getD, xE_setI, xsz_setI, xsl_setI, xtag_setI, xown_setI, xlen_setI, xE_setR, xsz_setR, xsl_setR, xtag_setR, xown_setR, xlen_setR, xE_setW, xsz_setW, xsl_setW, xtag_setW, xown_setW, xlen_setW, xi_setR, xi_setW, xr_setI, xr_setW, xww_setI, xww_setR, xi_setI, xr_setR, xww_setW, xE_new, xsz_new, xsl_new, hM.tx, hM.xp, hM.l3, tb1] <;> rfl)) (by simp [-List.getD_eq_getElem?_getD, xE_setI, xsz_setI, xsl_setI, xtag_setI, xown_setI, xlen_setI, xE_setR, xsz_setR, xsl_setR, xtag_setR, xown_setR, xlen_setR, xE_setW, xsz_setW, xsl_setW, xtag_setW, xown_setW, xlen_setW, xi_setR, xi_setW, xr_setI, xr_setW, xww_setI, xww_setR, xi_setI, xr_setR, xww_setW, xE_new, xsz_new, xsl_new, hM.tx, hM.xp, hM.l3, tb1]) ?_
  refine xw_iload_n (pc := 4) dX1_end_4 1 rfl ?_
  refine xw_callV (pc := 5) (xr_V (as := [_]) ok_X2_rule rfl (by decide) q1338 q1339 q1340 (by rw [hM.P.tag]; rfl) (by rw [hM.P.tag]; rfl) dX1_end_5 rfl rfl (Nat.le_of_ble_eq_true rfl)) (SP_X2_rule hM.P.pl r (by omega) (hM.P.ru hr).1) ?_
  refine xw_astore_n (l' := [(3, _), (0, _), (1, _), (2, _)]) (pc := 8) dX1_end_8 rfl (by decide) rfl ?_
  refine xw_iload_n (pc := 9) dX1_end_9 3 rfl ?_
  refine xw_callV (pc := 10) (xr_S (as := [_]) ok_X1_isDay rfl (by decide) q1265 q1266 dX1_end_10 rfl rfl (Nat.le_of_ble_eq_true rfl)) ((show XM M_X1_isDay (d + 79) [.int (nI f)] g (xOne (some (.int (bI true))) g) from (inR_nat' (by decide) (show f ≤ 999 by omega)) ▸ SP_X1_isDay)) ?_
  refine xw_callU (pc := 13) (xr_S (as := [_]) ok_X1_check rfl (by decide) q1181 q1182 dX1_end_13 rfl rfl (Nat.le_of_ble_eq_true rfl)) (SP_X1_check_T) ?_
  refine xw_aload_n (pc := 16) dX1_end_16 1 rfl ?_
  refine xw_new (t := 8) (pc := 17) 5 dX1_end_17 rfl (by decide) (by first | decide | assumption | omega) q1268 q1269 q127 ?_
  refine xw_at (a := (xsz g)) (by rfl) ?_
  refine xw_dup (pc := 20) dX1_end_20 rfl ?_
  refine xw_callU (pc := 21) (xr_IN (as := []) ok_X10_init rfl (by decide) q1270 q1271 rfl rfl dX1_end_21 rfl rfl (Nat.le_of_ble_eq_true rfl)) (SP_X10_init) ?_
  refine xw_aload_n (pc := 24) dX1_end_24 0 rfl ?_
  refine xw_getI (pc := 25) fd_X1_289 dX1_end_25 (by first | assumption | (simp [-List.getD_eq_getElem?_getD, xE_setI, xsz_setI, xsl_setI, xtag_setI, xown_setI, xlen_setI, xE_setR, xsz_setR, xsl_setR, xtag_setR, xown_setR, xlen_setR, xE_setW, xsz_setW, xsl_setW, xtag_setW, xown_setW, xlen_setW, xi_setR, xi_setW, xr_setI, xr_setW, xww_setI, xww_setR, xi_setI, xr_setR, xww_setW, xE_new, xsz_new, xsl_new, hM.tx, hM.xp, hM.l3, tb1, xsub]; done) | (simp [-List.getD_eq_getElem?_getD, xE_setI, xsz_setI, xsl_setI, xtag_setI, xown_setI, xlen_setI, xE_setR, xsz_setR, xsl_setR, xtag_setR, xown_setR, xlen_setR, xE_setW, xsz_setW, xsl_setW, xtag_setW, xown_setW, xlen_setW, xi_setR, xi_setW, xr_setI, xr_setW, xww_setI, xww_setR, xi_setI, xr_setR, xww_setW, xE_new, xsz_new, xsl_new, hM.tx, hM.xp, hM.l3, tb1] <;> rfl)) ?_
  rw [n1.2 3, b3]
  refine xw_iload_n (pc := 28) dX1_end_28 3 rfl ?_
  refine xw_icmp_le (pc := 29) 36 dX1_end_29 rfl (fun hb29 => ?_) (fun hb29 => ?_)
  · have hlf : ¬ nI f < S 1 (23 + 20 * r + 3) := Int32.not_lt.mpr hb29
    refine xw_iconst (v := nI 0) (pc := 36) dX1_end_36 rfl ?_
    refine xw_iconst (v := nI 3) (pc := 37) dX1_end_37 rfl ?_
    refine xw_aload_n (pc := 38) dX1_end_38 0 rfl ?_
    refine xw_getI (pc := 39) fd_X1_289 dX1_end_39 (by first | assumption | (simp [-List.getD_eq_getElem?_getD, xE_setI, xsz_setI, xsl_setI, xtag_setI, xown_setI, xlen_setI, xE_setR, xsz_setR, xsl_setR, xtag_setR, xown_setR, xlen_setR, xE_setW, xsz_setW, xsl_setW, xtag_setW, xown_setW, xlen_setW, xi_setR, xi_setW, xr_setI, xr_setW, xww_setI, xww_setR, xi_setI, xr_setR, xww_setW, xE_new, xsz_new, xsl_new, hM.tx, hM.xp, hM.l3, tb1, xsub]; done) | (simp [-List.getD_eq_getElem?_getD, xE_setI, xsz_setI, xsl_setI, xtag_setI, xown_setI, xlen_setI, xE_setR, xsz_setR, xsl_setR, xtag_setR, xown_setR, xlen_setR, xE_setW, xsz_setW, xsl_setW, xtag_setW, xown_setW, xlen_setW, xi_setR, xi_setW, xr_setI, xr_setW, xww_setI, xww_setR, xi_setI, xr_setR, xww_setW, xE_new, xsz_new, xsl_new, hM.tx, hM.xp, hM.l3, tb1] <;> rfl)) ?_
    rw [n1.2 3, b3]
    refine xw_callF (pc := 42) (xr_V (as := [_, _, _]) ok_X10_asks rfl (by decide) q1447 q1284 q1285 (by first | (rw [xWy_new.1]; rfl) | (rw [hc42.1.1]; rfl)) (by first | (rw [xWy_new.1]; rfl) | (rw [hc42.1.1]; rfl)) dX1_end_42 rfl rfl (Nat.le_of_ble_eq_true rfl)) (SP_X10_asks (b := false) (re := 3) (c := 0) xWy_new (by first | rfl | exact nI1 | exact nI0) (by decide)) ?_
    intro g42 hc42 hm42
    have F42 := (FN.tr hc42.2).sub (fun _ h => h) (Nat.le_refl _)
    have n2 := nb F42
    have tb2 : xsub 90 (xtag g42 ((aR Z).getD r 0)) = true := by rw [n2.1]; exact tb
    refine xw_aload_n (pc := 45) dX1_end_45 0 rfl ?_
    refine xw_getI (pc := 46) fd_X1_291 dX1_end_46 (by first | assumption | (simp [-List.getD_eq_getElem?_getD, xE_setI, xsz_setI, xsl_setI, xtag_setI, xown_setI, xlen_setI, xE_setR, xsz_setR, xsl_setR, xtag_setR, xown_setR, xlen_setR, xE_setW, xsz_setW, xsl_setW, xtag_setW, xown_setW, xlen_setW, xi_setR, xi_setW, xr_setI, xr_setW, xww_setI, xww_setR, xi_setI, xr_setR, xww_setW, xE_new, xsz_new, xsl_new, hM.tx, hM.xp, hM.l3, tb1, tb2, xsub]; done) | (simp [-List.getD_eq_getElem?_getD, xE_setI, xsz_setI, xsl_setI, xtag_setI, xown_setI, xlen_setI, xE_setR, xsz_setR, xsl_setR, xtag_setR, xown_setR, xlen_setR, xE_setW, xsz_setW, xsl_setW, xtag_setW, xown_setW, xlen_setW, xi_setR, xi_setW, xr_setI, xr_setW, xww_setI, xww_setR, xi_setI, xr_setR, xww_setW, xE_new, xsz_new, xsl_new, hM.tx, hM.xp, hM.l3, tb1, tb2] <;> rfl)) ?_
    rw [n2.2 4, b4]
    refine xw_iload_n (pc := 49) dX1_end_49 3 rfl ?_
    refine xw_icmp_ge (pc := 50) 57 dX1_end_50 rfl (fun hb50 => ?_) (fun hb50 => ?_)
    · have hlg : ¬ S 1 (23 + 20 * r + 4) < nI f := Int32.not_lt.mpr hb50
      refine xw_iconst (v := nI 0) (pc := 57) dX1_end_57 rfl ?_
      refine xw_bipush (v := nI 8) (pc := 58) dX1_end_58 (by decide +kernel) ?_
      refine xw_aload_n (pc := 60) dX1_end_60 0 rfl ?_
      refine xw_getI (pc := 61) fd_X1_291 dX1_end_61 (by first | assumption | (simp [-List.getD_eq_getElem?_getD, xE_setI, xsz_setI, xsl_setI, xtag_setI, xown_setI, xlen_setI, xE_setR, xsz_setR, xsl_setR, xtag_setR, xown_setR, xlen_setR, xE_setW, xsz_setW, xsl_setW, xtag_setW, xown_setW, xlen_setW, xi_setR, xi_setW, xr_setI, xr_setW, xww_setI, xww_setR, xi_setI, xr_setR, xww_setW, xE_new, xsz_new, xsl_new, hM.tx, hM.xp, hM.l3, tb1, tb2, xsub]; done) | (simp [-List.getD_eq_getElem?_getD, xE_setI, xsz_setI, xsl_setI, xtag_setI, xown_setI, xlen_setI, xE_setR, xsz_setR, xsl_setR, xtag_setR, xown_setR, xlen_setR, xE_setW, xsz_setW, xsl_setW, xtag_setW, xown_setW, xlen_setW, xi_setR, xi_setW, xr_setI, xr_setW, xww_setI, xww_setR, xi_setI, xr_setR, xww_setW, xE_new, xsz_new, xsl_new, hM.tx, hM.xp, hM.l3, tb1, tb2] <;> rfl)) ?_
      rw [n2.2 4, b4]
      refine xw_callF (pc := 64) (xr_V (as := [_, _, _]) ok_X10_asks rfl (by decide) q1447 q1284 q1285 (by first | (rw [xWy_new.1]; rfl) | (rw [hc42.1.1]; rfl)) (by first | (rw [xWy_new.1]; rfl) | (rw [hc42.1.1]; rfl)) dX1_end_64 rfl rfl (Nat.le_of_ble_eq_true rfl)) (SP_X10_asks (b := false) (re := 8) (c := 0) hc42.1 (by first | rfl | exact nI1 | exact nI0) (by decide)) ?_
      intro g64 hc64 hm64
      have F9 := (F42.tr hc64.2).sub (fun _ h => h) (Nat.le_refl _)
      have hw9 : xWy g64 (xsz g) (endW (S 1) r (nI f)) := hc64.1.congr (by
        unfold wAsk endW
        first | rw [if_pos hlf] | rw [if_neg hlf]
        first | rw [if_pos hlg] | rw [if_neg hlg] | skip
        simp)
      have hp0 := hM.P.p0
      have oK5 : oKeep (oEq 5) := by unfold oKeep oEq; omega
      have hP9 := hM.P.fr F9 (fun o h1 h2 => by unfold oP at h1; unfold oEq at h2; omega) (by unfold oEq; omega)
      have hM9 := hM.fr F9 oK5 hP9
      have hxl : x < xsz g := xlt (by rw [hM.tx]; decide)
      have nx5 : ¬ oEq 5 (xown g x) := by rw [hM.ox]; unfold oEq; omega
      exact tl_X1_end hM9 ⟨(F9.r' hxl nx5).trans hPa.1, hPa.2.1.fr F9 (by unfold oEq; omega), trivial, hPa.2.2.2⟩ hr hf hw9 hv F9 (by decide)
    · have hlg : S 1 (23 + 20 * r + 4) < nI f := Int32.not_le.mp hb50
      refine xw_iconst (v := nI 1) (pc := 53) dX1_end_53 rfl ?_
      refine xw_goto (pc := 54) 58 dX1_end_54 rfl ?_
      refine xw_bipush (v := nI 8) (pc := 58) dX1_end_58 (by decide +kernel) ?_
      refine xw_aload_n (pc := 60) dX1_end_60 0 rfl ?_
      refine xw_getI (pc := 61) fd_X1_291 dX1_end_61 (by first | assumption | (simp [-List.getD_eq_getElem?_getD, xE_setI, xsz_setI, xsl_setI, xtag_setI, xown_setI, xlen_setI, xE_setR, xsz_setR, xsl_setR, xtag_setR, xown_setR, xlen_setR, xE_setW, xsz_setW, xsl_setW, xtag_setW, xown_setW, xlen_setW, xi_setR, xi_setW, xr_setI, xr_setW, xww_setI, xww_setR, xi_setI, xr_setR, xww_setW, xE_new, xsz_new, xsl_new, hM.tx, hM.xp, hM.l3, tb1, tb2, xsub]; done) | (simp [-List.getD_eq_getElem?_getD, xE_setI, xsz_setI, xsl_setI, xtag_setI, xown_setI, xlen_setI, xE_setR, xsz_setR, xsl_setR, xtag_setR, xown_setR, xlen_setR, xE_setW, xsz_setW, xsl_setW, xtag_setW, xown_setW, xlen_setW, xi_setR, xi_setW, xr_setI, xr_setW, xww_setI, xww_setR, xi_setI, xr_setR, xww_setW, xE_new, xsz_new, xsl_new, hM.tx, hM.xp, hM.l3, tb1, tb2] <;> rfl)) ?_
      rw [n2.2 4, b4]
      refine xw_callF (pc := 64) (xr_V (as := [_, _, _]) ok_X10_asks rfl (by decide) q1447 q1284 q1285 (by first | (rw [xWy_new.1]; rfl) | (rw [hc42.1.1]; rfl)) (by first | (rw [xWy_new.1]; rfl) | (rw [hc42.1.1]; rfl)) dX1_end_64 rfl rfl (Nat.le_of_ble_eq_true rfl)) (SP_X10_asks (b := true) (re := 8) (c := 1) hc42.1 (by first | rfl | exact nI1 | exact nI0) (by decide)) ?_
      intro g64 hc64 hm64
      have F9 := (F42.tr hc64.2).sub (fun _ h => h) (Nat.le_refl _)
      have hw9 : xWy g64 (xsz g) (endW (S 1) r (nI f)) := hc64.1.congr (by
        unfold wAsk endW
        first | rw [if_pos hlf] | rw [if_neg hlf]
        first | rw [if_pos hlg] | rw [if_neg hlg] | skip
        simp)
      have hp0 := hM.P.p0
      have oK5 : oKeep (oEq 5) := by unfold oKeep oEq; omega
      have hP9 := hM.P.fr F9 (fun o h1 h2 => by unfold oP at h1; unfold oEq at h2; omega) (by unfold oEq; omega)
      have hM9 := hM.fr F9 oK5 hP9
      have hxl : x < xsz g := xlt (by rw [hM.tx]; decide)
      have nx5 : ¬ oEq 5 (xown g x) := by rw [hM.ox]; unfold oEq; omega
      exact tl_X1_end hM9 ⟨(F9.r' hxl nx5).trans hPa.1, hPa.2.1.fr F9 (by unfold oEq; omega), trivial, hPa.2.2.2⟩ hr hf hw9 hv F9 (by decide)
  · have hlf : nI f < S 1 (23 + 20 * r + 3) := Int32.not_le.mp hb29
    refine xw_iconst (v := nI 1) (pc := 32) dX1_end_32 rfl ?_
    refine xw_goto (pc := 33) 37 dX1_end_33 rfl ?_
    refine xw_iconst (v := nI 3) (pc := 37) dX1_end_37 rfl ?_
    refine xw_aload_n (pc := 38) dX1_end_38 0 rfl ?_
    refine xw_getI (pc := 39) fd_X1_289 dX1_end_39 (by first | assumption | (simp [-List.getD_eq_getElem?_getD, xE_setI, xsz_setI, xsl_setI, xtag_setI, xown_setI, xlen_setI, xE_setR, xsz_setR, xsl_setR, xtag_setR, xown_setR, xlen_setR, xE_setW, xsz_setW, xsl_setW, xtag_setW, xown_setW, xlen_setW, xi_setR, xi_setW, xr_setI, xr_setW, xww_setI, xww_setR, xi_setI, xr_setR, xww_setW, xE_new, xsz_new, xsl_new, hM.tx, hM.xp, hM.l3, tb1, xsub]; done) | (simp [-List.getD_eq_getElem?_getD, xE_setI, xsz_setI, xsl_setI, xtag_setI, xown_setI, xlen_setI, xE_setR, xsz_setR, xsl_setR, xtag_setR, xown_setR, xlen_setR, xE_setW, xsz_setW, xsl_setW, xtag_setW, xown_setW, xlen_setW, xi_setR, xi_setW, xr_setI, xr_setW, xww_setI, xww_setR, xi_setI, xr_setR, xww_setW, xE_new, xsz_new, xsl_new, hM.tx, hM.xp, hM.l3, tb1] <;> rfl)) ?_
    rw [n1.2 3, b3]
    refine xw_callF (pc := 42) (xr_V (as := [_, _, _]) ok_X10_asks rfl (by decide) q1447 q1284 q1285 (by first | (rw [xWy_new.1]; rfl) | (rw [hc42.1.1]; rfl)) (by first | (rw [xWy_new.1]; rfl) | (rw [hc42.1.1]; rfl)) dX1_end_42 rfl rfl (Nat.le_of_ble_eq_true rfl)) (SP_X10_asks (b := true) (re := 3) (c := 1) xWy_new (by first | rfl | exact nI1 | exact nI0) (by decide)) ?_
    intro g42 hc42 hm42
    have F42 := (FN.tr hc42.2).sub (fun _ h => h) (Nat.le_refl _)
    have n2 := nb F42
    have tb2 : xsub 90 (xtag g42 ((aR Z).getD r 0)) = true := by rw [n2.1]; exact tb
    refine xw_aload_n (pc := 45) dX1_end_45 0 rfl ?_
    refine xw_getI (pc := 46) fd_X1_291 dX1_end_46 (by first | assumption | (simp [-List.getD_eq_getElem?_getD, xE_setI, xsz_setI, xsl_setI, xtag_setI, xown_setI, xlen_setI, xE_setR, xsz_setR, xsl_setR, xtag_setR, xown_setR, xlen_setR, xE_setW, xsz_setW, xsl_setW, xtag_setW, xown_setW, xlen_setW, xi_setR, xi_setW, xr_setI, xr_setW, xww_setI, xww_setR, xi_setI, xr_setR, xww_setW, xE_new, xsz_new, xsl_new, hM.tx, hM.xp, hM.l3, tb1, tb2, xsub]; done) | (simp [-List.getD_eq_getElem?_getD, xE_setI, xsz_setI, xsl_setI, xtag_setI, xown_setI, xlen_setI, xE_setR, xsz_setR, xsl_setR, xtag_setR, xown_setR, xlen_setR, xE_setW, xsz_setW, xsl_setW, xtag_setW, xown_setW, xlen_setW, xi_setR, xi_setW, xr_setI, xr_setW, xww_setI, xww_setR, xi_setI, xr_setR, xww_setW, xE_new, xsz_new, xsl_new, hM.tx, hM.xp, hM.l3, tb1, tb2] <;> rfl)) ?_
    rw [n2.2 4, b4]
    refine xw_iload_n (pc := 49) dX1_end_49 3 rfl ?_
    refine xw_icmp_ge (pc := 50) 57 dX1_end_50 rfl (fun hb50 => ?_) (fun hb50 => ?_)
    · have hlg : ¬ S 1 (23 + 20 * r + 4) < nI f := Int32.not_lt.mpr hb50
      refine xw_iconst (v := nI 0) (pc := 57) dX1_end_57 rfl ?_
      refine xw_bipush (v := nI 8) (pc := 58) dX1_end_58 (by decide +kernel) ?_
      refine xw_aload_n (pc := 60) dX1_end_60 0 rfl ?_
      refine xw_getI (pc := 61) fd_X1_291 dX1_end_61 (by first | assumption | (simp [-List.getD_eq_getElem?_getD, xE_setI, xsz_setI, xsl_setI, xtag_setI, xown_setI, xlen_setI, xE_setR, xsz_setR, xsl_setR, xtag_setR, xown_setR, xlen_setR, xE_setW, xsz_setW, xsl_setW, xtag_setW, xown_setW, xlen_setW, xi_setR, xi_setW, xr_setI, xr_setW, xww_setI, xww_setR, xi_setI, xr_setR, xww_setW, xE_new, xsz_new, xsl_new, hM.tx, hM.xp, hM.l3, tb1, tb2, xsub]; done) | (simp [-List.getD_eq_getElem?_getD, xE_setI, xsz_setI, xsl_setI, xtag_setI, xown_setI, xlen_setI, xE_setR, xsz_setR, xsl_setR, xtag_setR, xown_setR, xlen_setR, xE_setW, xsz_setW, xsl_setW, xtag_setW, xown_setW, xlen_setW, xi_setR, xi_setW, xr_setI, xr_setW, xww_setI, xww_setR, xi_setI, xr_setR, xww_setW, xE_new, xsz_new, xsl_new, hM.tx, hM.xp, hM.l3, tb1, tb2] <;> rfl)) ?_
      rw [n2.2 4, b4]
      refine xw_callF (pc := 64) (xr_V (as := [_, _, _]) ok_X10_asks rfl (by decide) q1447 q1284 q1285 (by first | (rw [xWy_new.1]; rfl) | (rw [hc42.1.1]; rfl)) (by first | (rw [xWy_new.1]; rfl) | (rw [hc42.1.1]; rfl)) dX1_end_64 rfl rfl (Nat.le_of_ble_eq_true rfl)) (SP_X10_asks (b := false) (re := 8) (c := 0) hc42.1 (by first | rfl | exact nI1 | exact nI0) (by decide)) ?_
      intro g64 hc64 hm64
      have F9 := (F42.tr hc64.2).sub (fun _ h => h) (Nat.le_refl _)
      have hw9 : xWy g64 (xsz g) (endW (S 1) r (nI f)) := hc64.1.congr (by
        unfold wAsk endW
        first | rw [if_pos hlf] | rw [if_neg hlf]
        first | rw [if_pos hlg] | rw [if_neg hlg] | skip
        simp)
      have hp0 := hM.P.p0
      have oK5 : oKeep (oEq 5) := by unfold oKeep oEq; omega
      have hP9 := hM.P.fr F9 (fun o h1 h2 => by unfold oP at h1; unfold oEq at h2; omega) (by unfold oEq; omega)
      have hM9 := hM.fr F9 oK5 hP9
      have hxl : x < xsz g := xlt (by rw [hM.tx]; decide)
      have nx5 : ¬ oEq 5 (xown g x) := by rw [hM.ox]; unfold oEq; omega
      exact tl_X1_end hM9 ⟨(F9.r' hxl nx5).trans hPa.1, hPa.2.1.fr F9 (by unfold oEq; omega), trivial, hPa.2.2.2⟩ hr hf hw9 hv F9 (by decide)
    · have hlg : S 1 (23 + 20 * r + 4) < nI f := Int32.not_le.mp hb50
      refine xw_iconst (v := nI 1) (pc := 53) dX1_end_53 rfl ?_
      refine xw_goto (pc := 54) 58 dX1_end_54 rfl ?_
      refine xw_bipush (v := nI 8) (pc := 58) dX1_end_58 (by decide +kernel) ?_
      refine xw_aload_n (pc := 60) dX1_end_60 0 rfl ?_
      refine xw_getI (pc := 61) fd_X1_291 dX1_end_61 (by first | assumption | (simp [-List.getD_eq_getElem?_getD, xE_setI, xsz_setI, xsl_setI, xtag_setI, xown_setI, xlen_setI, xE_setR, xsz_setR, xsl_setR, xtag_setR, xown_setR, xlen_setR, xE_setW, xsz_setW, xsl_setW, xtag_setW, xown_setW, xlen_setW, xi_setR, xi_setW, xr_setI, xr_setW, xww_setI, xww_setR, xi_setI, xr_setR, xww_setW, xE_new, xsz_new, xsl_new, hM.tx, hM.xp, hM.l3, tb1, tb2, xsub]; done) | (simp [-List.getD_eq_getElem?_getD, xE_setI, xsz_setI, xsl_setI, xtag_setI, xown_setI, xlen_setI, xE_setR, xsz_setR, xsl_setR, xtag_setR, xown_setR, xlen_setR, xE_setW, xsz_setW, xsl_setW, xtag_setW, xown_setW, xlen_setW, xi_setR, xi_setW, xr_setI, xr_setW, xww_setI, xww_setR, xi_setI, xr_setR, xww_setW, xE_new, xsz_new, xsl_new, hM.tx, hM.xp, hM.l3, tb1, tb2] <;> rfl)) ?_
      rw [n2.2 4, b4]
      refine xw_callF (pc := 64) (xr_V (as := [_, _, _]) ok_X10_asks rfl (by decide) q1447 q1284 q1285 (by first | (rw [xWy_new.1]; rfl) | (rw [hc42.1.1]; rfl)) (by first | (rw [xWy_new.1]; rfl) | (rw [hc42.1.1]; rfl)) dX1_end_64 rfl rfl (Nat.le_of_ble_eq_true rfl)) (SP_X10_asks (b := true) (re := 8) (c := 1) hc42.1 (by first | rfl | exact nI1 | exact nI0) (by decide)) ?_
      intro g64 hc64 hm64
      have F9 := (F42.tr hc64.2).sub (fun _ h => h) (Nat.le_refl _)
      have hw9 : xWy g64 (xsz g) (endW (S 1) r (nI f)) := hc64.1.congr (by
        unfold wAsk endW
        first | rw [if_pos hlf] | rw [if_neg hlf]
        first | rw [if_pos hlg] | rw [if_neg hlg] | skip
        simp)
      have hp0 := hM.P.p0
      have oK5 : oKeep (oEq 5) := by unfold oKeep oEq; omega
      have hP9 := hM.P.fr F9 (fun o h1 h2 => by unfold oP at h1; unfold oEq at h2; omega) (by unfold oEq; omega)
      have hM9 := hM.fr F9 oK5 hP9
      have hxl : x < xsz g := xlt (by rw [hM.tx]; decide)
      have nx5 : ¬ oEq 5 (xown g x) := by rw [hM.ox]; unfold oEq; omega
      exact tl_X1_end hM9 ⟨(F9.r' hxl nx5).trans hPa.1, hPa.2.1.fr F9 (by unfold oEq; omega), trivial, hPa.2.2.2⟩ hr hf hw9 hv F9 (by decide)

theorem SP_X1_end_R {d : Nat} {g : xG} {x p lk fa ka la n rr ww : Nat} {Z : xAd} {S : xMS} (hM : xMn g x p lk fa ka la Z S n rr ww) {r f : Nat} (hr : r < rr) (hf : f < 1000) (hv : (endW (S 1) r (nI f)).1 ≠ 0) : XM M_X1_end (d + 80) [.ref x, .int (nI r), .int (nI f)] g (xRef g x (endW (S 1) r (nI f))) := by
  have hlr := hM.P.lr
  have r16 := hM.P.wf.r16
  have b3 := (hM.P.ru hr).2.2.2.2.1
  have b4 := (hM.P.ru hr).2.2.2.2.2.1
  have tb := xRu_x (hM.P.ru hr)
  have hlb : (aR Z).getD r 0 < xsz g := xlt (by have := (hM.P.ru hr).1; omega)
  have nb : ∀ {h : xG} {N : Nat}, xFr (oEq 5) N g h → xtag h ((aR Z).getD r 0) = xtag g ((aR Z).getD r 0) ∧ ∀ j, xi h ((aR Z).getD r 0) j = xi g ((aR Z).getD r 0) j := fun F => ⟨F.tag hlb, fun j => F.i' hlb (by rw [(hM.P.rp hr).2.1]; have := hM.P.p0; unfold oEq; omega)⟩
  have FN : xFr (oEq 5) 2 g (xNew g (xBlank 8 5 1) 1) := (xFr.rf (n := 0)).nw
  have n1 := nb FN
  have tb1 : xsub 90 (xtag (xNew g (xBlank 8 5 1) 1) ((aR Z).getD r 0)) = true := by rw [n1.1]; exact tb
  refine xm_of (by decide +kernel) (Nat.le_of_ble_eq_true rfl) ?_
  show XW _ _ 0 [(0, _), (1, _), (2, _)] [] _ _
  refine xw_aload_n (pc := 0) dX1_end_0 0 rfl ?_
  refine xw_getS (b := p) (pc := 1) fd_X1_10 dX1_end_1 (by first | assumption | (simp [-List.getD_eq_getElem?_getD, xE_setI, xsz_setI, xsl_setI, xtag_setI, xown_setI, xlen_setI, xE_setR, xsz_setR, xsl_setR, xtag_setR, xown_setR, xlen_setR, xE_setW, xsz_setW, xsl_setW, xtag_setW, xown_setW, xlen_setW, xi_setR, xi_setW, xr_setI, xr_setW, xww_setI, xww_setR, xi_setI, xr_setR, xww_setW, xE_new, xsz_new, xsl_new, hM.tx, hM.xp, hM.l3, tb1, xsub]; done) | (simp [-List.getD_eq_getElem?_getD, xE_setI, xsz_setI, xsl_setI, xtag_setI, xown_setI, xlen_setI, xE_setR, xsz_setR, xsl_setR, xtag_setR, xown_setR, xlen_setR, xE_setW, xsz_setW, xsl_setW, xtag_setW, xown_setW, xlen_setW, xi_setR, xi_setW, xr_setI, xr_setW, xww_setI, xww_setR, xi_setI, xr_setR, xww_setW, xE_new, xsz_new, xsl_new, hM.tx, hM.xp, hM.l3, tb1] <;> rfl)) (by simp [-List.getD_eq_getElem?_getD, xE_setI, xsz_setI, xsl_setI, xtag_setI, xown_setI, xlen_setI, xE_setR, xsz_setR, xsl_setR, xtag_setR, xown_setR, xlen_setR, xE_setW, xsz_setW, xsl_setW, xtag_setW, xown_setW, xlen_setW, xi_setR, xi_setW, xr_setI, xr_setW, xww_setI, xww_setR, xi_setI, xr_setR, xww_setW, xE_new, xsz_new, xsl_new, hM.tx, hM.xp, hM.l3, tb1]) ?_
  refine xw_iload_n (pc := 4) dX1_end_4 1 rfl ?_
  refine xw_callV (pc := 5) (xr_V (as := [_]) ok_X2_rule rfl (by decide) q1338 q1339 q1340 (by rw [hM.P.tag]; rfl) (by rw [hM.P.tag]; rfl) dX1_end_5 rfl rfl (Nat.le_of_ble_eq_true rfl)) (SP_X2_rule hM.P.pl r (by omega) (hM.P.ru hr).1) ?_
  refine xw_astore_n (l' := [(3, _), (0, _), (1, _), (2, _)]) (pc := 8) dX1_end_8 rfl (by decide) rfl ?_
  refine xw_iload_n (pc := 9) dX1_end_9 3 rfl ?_
  refine xw_callV (pc := 10) (xr_S (as := [_]) ok_X1_isDay rfl (by decide) q1265 q1266 dX1_end_10 rfl rfl (Nat.le_of_ble_eq_true rfl)) ((show XM M_X1_isDay (d + 79) [.int (nI f)] g (xOne (some (.int (bI true))) g) from (inR_nat' (by decide) (show f ≤ 999 by omega)) ▸ SP_X1_isDay)) ?_
  refine xw_callU (pc := 13) (xr_S (as := [_]) ok_X1_check rfl (by decide) q1181 q1182 dX1_end_13 rfl rfl (Nat.le_of_ble_eq_true rfl)) (SP_X1_check_T) ?_
  refine xw_aload_n (pc := 16) dX1_end_16 1 rfl ?_
  refine xw_new (t := 8) (pc := 17) 5 dX1_end_17 rfl (by decide) (by first | decide | assumption | omega) q1268 q1269 q127 ?_
  refine xw_at (a := (xsz g)) (by rfl) ?_
  refine xw_dup (pc := 20) dX1_end_20 rfl ?_
  refine xw_callU (pc := 21) (xr_IN (as := []) ok_X10_init rfl (by decide) q1270 q1271 rfl rfl dX1_end_21 rfl rfl (Nat.le_of_ble_eq_true rfl)) (SP_X10_init) ?_
  refine xw_aload_n (pc := 24) dX1_end_24 0 rfl ?_
  refine xw_getI (pc := 25) fd_X1_289 dX1_end_25 (by first | assumption | (simp [-List.getD_eq_getElem?_getD, xE_setI, xsz_setI, xsl_setI, xtag_setI, xown_setI, xlen_setI, xE_setR, xsz_setR, xsl_setR, xtag_setR, xown_setR, xlen_setR, xE_setW, xsz_setW, xsl_setW, xtag_setW, xown_setW, xlen_setW, xi_setR, xi_setW, xr_setI, xr_setW, xww_setI, xww_setR, xi_setI, xr_setR, xww_setW, xE_new, xsz_new, xsl_new, hM.tx, hM.xp, hM.l3, tb1, xsub]; done) | (simp [-List.getD_eq_getElem?_getD, xE_setI, xsz_setI, xsl_setI, xtag_setI, xown_setI, xlen_setI, xE_setR, xsz_setR, xsl_setR, xtag_setR, xown_setR, xlen_setR, xE_setW, xsz_setW, xsl_setW, xtag_setW, xown_setW, xlen_setW, xi_setR, xi_setW, xr_setI, xr_setW, xww_setI, xww_setR, xi_setI, xr_setR, xww_setW, xE_new, xsz_new, xsl_new, hM.tx, hM.xp, hM.l3, tb1] <;> rfl)) ?_
  rw [n1.2 3, b3]
  refine xw_iload_n (pc := 28) dX1_end_28 3 rfl ?_
  refine xw_icmp_le (pc := 29) 36 dX1_end_29 rfl (fun hb29 => ?_) (fun hb29 => ?_)
  · have hlf : ¬ nI f < S 1 (23 + 20 * r + 3) := Int32.not_lt.mpr hb29
    refine xw_iconst (v := nI 0) (pc := 36) dX1_end_36 rfl ?_
    refine xw_iconst (v := nI 3) (pc := 37) dX1_end_37 rfl ?_
    refine xw_aload_n (pc := 38) dX1_end_38 0 rfl ?_
    refine xw_getI (pc := 39) fd_X1_289 dX1_end_39 (by first | assumption | (simp [-List.getD_eq_getElem?_getD, xE_setI, xsz_setI, xsl_setI, xtag_setI, xown_setI, xlen_setI, xE_setR, xsz_setR, xsl_setR, xtag_setR, xown_setR, xlen_setR, xE_setW, xsz_setW, xsl_setW, xtag_setW, xown_setW, xlen_setW, xi_setR, xi_setW, xr_setI, xr_setW, xww_setI, xww_setR, xi_setI, xr_setR, xww_setW, xE_new, xsz_new, xsl_new, hM.tx, hM.xp, hM.l3, tb1, xsub]; done) | (simp [-List.getD_eq_getElem?_getD, xE_setI, xsz_setI, xsl_setI, xtag_setI, xown_setI, xlen_setI, xE_setR, xsz_setR, xsl_setR, xtag_setR, xown_setR, xlen_setR, xE_setW, xsz_setW, xsl_setW, xtag_setW, xown_setW, xlen_setW, xi_setR, xi_setW, xr_setI, xr_setW, xww_setI, xww_setR, xi_setI, xr_setR, xww_setW, xE_new, xsz_new, xsl_new, hM.tx, hM.xp, hM.l3, tb1] <;> rfl)) ?_
    rw [n1.2 3, b3]
    refine xw_callF (pc := 42) (xr_V (as := [_, _, _]) ok_X10_asks rfl (by decide) q1447 q1284 q1285 (by first | (rw [xWy_new.1]; rfl) | (rw [hc42.1.1]; rfl)) (by first | (rw [xWy_new.1]; rfl) | (rw [hc42.1.1]; rfl)) dX1_end_42 rfl rfl (Nat.le_of_ble_eq_true rfl)) (SP_X10_asks (b := false) (re := 3) (c := 0) xWy_new (by first | rfl | exact nI1 | exact nI0) (by decide)) ?_
    intro g42 hc42 hm42
    have F42 := (FN.tr hc42.2).sub (fun _ h => h) (Nat.le_refl _)
    have n2 := nb F42
    have tb2 : xsub 90 (xtag g42 ((aR Z).getD r 0)) = true := by rw [n2.1]; exact tb
    refine xw_aload_n (pc := 45) dX1_end_45 0 rfl ?_
    refine xw_getI (pc := 46) fd_X1_291 dX1_end_46 (by first | assumption | (simp [-List.getD_eq_getElem?_getD, xE_setI, xsz_setI, xsl_setI, xtag_setI, xown_setI, xlen_setI, xE_setR, xsz_setR, xsl_setR, xtag_setR, xown_setR, xlen_setR, xE_setW, xsz_setW, xsl_setW, xtag_setW, xown_setW, xlen_setW, xi_setR, xi_setW, xr_setI, xr_setW, xww_setI, xww_setR, xi_setI, xr_setR, xww_setW, xE_new, xsz_new, xsl_new, hM.tx, hM.xp, hM.l3, tb1, tb2, xsub]; done) | (simp [-List.getD_eq_getElem?_getD, xE_setI, xsz_setI, xsl_setI, xtag_setI, xown_setI, xlen_setI, xE_setR, xsz_setR, xsl_setR, xtag_setR, xown_setR, xlen_setR, xE_setW, xsz_setW, xsl_setW, xtag_setW, xown_setW, xlen_setW, xi_setR, xi_setW, xr_setI, xr_setW, xww_setI, xww_setR, xi_setI, xr_setR, xww_setW, xE_new, xsz_new, xsl_new, hM.tx, hM.xp, hM.l3, tb1, tb2] <;> rfl)) ?_
    rw [n2.2 4, b4]
    refine xw_iload_n (pc := 49) dX1_end_49 3 rfl ?_
    refine xw_icmp_ge (pc := 50) 57 dX1_end_50 rfl (fun hb50 => ?_) (fun hb50 => ?_)
    · have hlg : ¬ S 1 (23 + 20 * r + 4) < nI f := Int32.not_lt.mpr hb50
      refine xw_iconst (v := nI 0) (pc := 57) dX1_end_57 rfl ?_
      refine xw_bipush (v := nI 8) (pc := 58) dX1_end_58 (by decide +kernel) ?_
      refine xw_aload_n (pc := 60) dX1_end_60 0 rfl ?_
      refine xw_getI (pc := 61) fd_X1_291 dX1_end_61 (by first | assumption | (simp [-List.getD_eq_getElem?_getD, xE_setI, xsz_setI, xsl_setI, xtag_setI, xown_setI, xlen_setI, xE_setR, xsz_setR, xsl_setR, xtag_setR, xown_setR, xlen_setR, xE_setW, xsz_setW, xsl_setW, xtag_setW, xown_setW, xlen_setW, xi_setR, xi_setW, xr_setI, xr_setW, xww_setI, xww_setR, xi_setI, xr_setR, xww_setW, xE_new, xsz_new, xsl_new, hM.tx, hM.xp, hM.l3, tb1, tb2, xsub]; done) | (simp [-List.getD_eq_getElem?_getD, xE_setI, xsz_setI, xsl_setI, xtag_setI, xown_setI, xlen_setI, xE_setR, xsz_setR, xsl_setR, xtag_setR, xown_setR, xlen_setR, xE_setW, xsz_setW, xsl_setW, xtag_setW, xown_setW, xlen_setW, xi_setR, xi_setW, xr_setI, xr_setW, xww_setI, xww_setR, xi_setI, xr_setR, xww_setW, xE_new, xsz_new, xsl_new, hM.tx, hM.xp, hM.l3, tb1, tb2] <;> rfl)) ?_
      rw [n2.2 4, b4]
      refine xw_callF (pc := 64) (xr_V (as := [_, _, _]) ok_X10_asks rfl (by decide) q1447 q1284 q1285 (by first | (rw [xWy_new.1]; rfl) | (rw [hc42.1.1]; rfl)) (by first | (rw [xWy_new.1]; rfl) | (rw [hc42.1.1]; rfl)) dX1_end_64 rfl rfl (Nat.le_of_ble_eq_true rfl)) (SP_X10_asks (b := false) (re := 8) (c := 0) hc42.1 (by first | rfl | exact nI1 | exact nI0) (by decide)) ?_
      intro g64 hc64 hm64
      have F9 := (F42.tr hc64.2).sub (fun _ h => h) (Nat.le_refl _)
      have hw9 : xWy g64 (xsz g) (endW (S 1) r (nI f)) := hc64.1.congr (by
        unfold wAsk endW
        first | rw [if_pos hlf] | rw [if_neg hlf]
        first | rw [if_pos hlg] | rw [if_neg hlg] | skip
        simp)
      have hp0 := hM.P.p0
      have oK5 : oKeep (oEq 5) := by unfold oKeep oEq; omega
      have hP9 := hM.P.fr F9 (fun o h1 h2 => by unfold oP at h1; unfold oEq at h2; omega) (by unfold oEq; omega)
      have hM9 := hM.fr F9 oK5 hP9
      refine xw_callY (pc := 67) (xr_V (as := [_]) ok_X1_refuse rfl (by decide) q1302 q1304 qs22 (by rw [hM9.tx]; rfl) (by rw [hM9.tx]; rfl) dX1_end_67 rfl rfl (Nat.le_of_ble_eq_true rfl)) (SP_X1_refuse_Y hw9 hv hM.tx hM.ox F9 (by decide)) xRef_up rfl ?_
      exact fun _ _ h => h
    · have hlg : S 1 (23 + 20 * r + 4) < nI f := Int32.not_le.mp hb50
      refine xw_iconst (v := nI 1) (pc := 53) dX1_end_53 rfl ?_
      refine xw_goto (pc := 54) 58 dX1_end_54 rfl ?_
      refine xw_bipush (v := nI 8) (pc := 58) dX1_end_58 (by decide +kernel) ?_
      refine xw_aload_n (pc := 60) dX1_end_60 0 rfl ?_
      refine xw_getI (pc := 61) fd_X1_291 dX1_end_61 (by first | assumption | (simp [-List.getD_eq_getElem?_getD, xE_setI, xsz_setI, xsl_setI, xtag_setI, xown_setI, xlen_setI, xE_setR, xsz_setR, xsl_setR, xtag_setR, xown_setR, xlen_setR, xE_setW, xsz_setW, xsl_setW, xtag_setW, xown_setW, xlen_setW, xi_setR, xi_setW, xr_setI, xr_setW, xww_setI, xww_setR, xi_setI, xr_setR, xww_setW, xE_new, xsz_new, xsl_new, hM.tx, hM.xp, hM.l3, tb1, tb2, xsub]; done) | (simp [-List.getD_eq_getElem?_getD, xE_setI, xsz_setI, xsl_setI, xtag_setI, xown_setI, xlen_setI, xE_setR, xsz_setR, xsl_setR, xtag_setR, xown_setR, xlen_setR, xE_setW, xsz_setW, xsl_setW, xtag_setW, xown_setW, xlen_setW, xi_setR, xi_setW, xr_setI, xr_setW, xww_setI, xww_setR, xi_setI, xr_setR, xww_setW, xE_new, xsz_new, xsl_new, hM.tx, hM.xp, hM.l3, tb1, tb2] <;> rfl)) ?_
      rw [n2.2 4, b4]
      refine xw_callF (pc := 64) (xr_V (as := [_, _, _]) ok_X10_asks rfl (by decide) q1447 q1284 q1285 (by first | (rw [xWy_new.1]; rfl) | (rw [hc42.1.1]; rfl)) (by first | (rw [xWy_new.1]; rfl) | (rw [hc42.1.1]; rfl)) dX1_end_64 rfl rfl (Nat.le_of_ble_eq_true rfl)) (SP_X10_asks (b := true) (re := 8) (c := 1) hc42.1 (by first | rfl | exact nI1 | exact nI0) (by decide)) ?_
      intro g64 hc64 hm64
      have F9 := (F42.tr hc64.2).sub (fun _ h => h) (Nat.le_refl _)
      have hw9 : xWy g64 (xsz g) (endW (S 1) r (nI f)) := hc64.1.congr (by
        unfold wAsk endW
        first | rw [if_pos hlf] | rw [if_neg hlf]
        first | rw [if_pos hlg] | rw [if_neg hlg] | skip
        simp)
      have hp0 := hM.P.p0
      have oK5 : oKeep (oEq 5) := by unfold oKeep oEq; omega
      have hP9 := hM.P.fr F9 (fun o h1 h2 => by unfold oP at h1; unfold oEq at h2; omega) (by unfold oEq; omega)
      have hM9 := hM.fr F9 oK5 hP9
      refine xw_callY (pc := 67) (xr_V (as := [_]) ok_X1_refuse rfl (by decide) q1302 q1304 qs22 (by rw [hM9.tx]; rfl) (by rw [hM9.tx]; rfl) dX1_end_67 rfl rfl (Nat.le_of_ble_eq_true rfl)) (SP_X1_refuse_Y hw9 hv hM.tx hM.ox F9 (by decide)) xRef_up rfl ?_
      exact fun _ _ h => h
  · have hlf : nI f < S 1 (23 + 20 * r + 3) := Int32.not_le.mp hb29
    refine xw_iconst (v := nI 1) (pc := 32) dX1_end_32 rfl ?_
    refine xw_goto (pc := 33) 37 dX1_end_33 rfl ?_
    refine xw_iconst (v := nI 3) (pc := 37) dX1_end_37 rfl ?_
    refine xw_aload_n (pc := 38) dX1_end_38 0 rfl ?_
    refine xw_getI (pc := 39) fd_X1_289 dX1_end_39 (by first | assumption | (simp [-List.getD_eq_getElem?_getD, xE_setI, xsz_setI, xsl_setI, xtag_setI, xown_setI, xlen_setI, xE_setR, xsz_setR, xsl_setR, xtag_setR, xown_setR, xlen_setR, xE_setW, xsz_setW, xsl_setW, xtag_setW, xown_setW, xlen_setW, xi_setR, xi_setW, xr_setI, xr_setW, xww_setI, xww_setR, xi_setI, xr_setR, xww_setW, xE_new, xsz_new, xsl_new, hM.tx, hM.xp, hM.l3, tb1, xsub]; done) | (simp [-List.getD_eq_getElem?_getD, xE_setI, xsz_setI, xsl_setI, xtag_setI, xown_setI, xlen_setI, xE_setR, xsz_setR, xsl_setR, xtag_setR, xown_setR, xlen_setR, xE_setW, xsz_setW, xsl_setW, xtag_setW, xown_setW, xlen_setW, xi_setR, xi_setW, xr_setI, xr_setW, xww_setI, xww_setR, xi_setI, xr_setR, xww_setW, xE_new, xsz_new, xsl_new, hM.tx, hM.xp, hM.l3, tb1] <;> rfl)) ?_
    rw [n1.2 3, b3]
    refine xw_callF (pc := 42) (xr_V (as := [_, _, _]) ok_X10_asks rfl (by decide) q1447 q1284 q1285 (by first | (rw [xWy_new.1]; rfl) | (rw [hc42.1.1]; rfl)) (by first | (rw [xWy_new.1]; rfl) | (rw [hc42.1.1]; rfl)) dX1_end_42 rfl rfl (Nat.le_of_ble_eq_true rfl)) (SP_X10_asks (b := true) (re := 3) (c := 1) xWy_new (by first | rfl | exact nI1 | exact nI0) (by decide)) ?_
    intro g42 hc42 hm42
    have F42 := (FN.tr hc42.2).sub (fun _ h => h) (Nat.le_refl _)
    have n2 := nb F42
    have tb2 : xsub 90 (xtag g42 ((aR Z).getD r 0)) = true := by rw [n2.1]; exact tb
    refine xw_aload_n (pc := 45) dX1_end_45 0 rfl ?_
    refine xw_getI (pc := 46) fd_X1_291 dX1_end_46 (by first | assumption | (simp [-List.getD_eq_getElem?_getD, xE_setI, xsz_setI, xsl_setI, xtag_setI, xown_setI, xlen_setI, xE_setR, xsz_setR, xsl_setR, xtag_setR, xown_setR, xlen_setR, xE_setW, xsz_setW, xsl_setW, xtag_setW, xown_setW, xlen_setW, xi_setR, xi_setW, xr_setI, xr_setW, xww_setI, xww_setR, xi_setI, xr_setR, xww_setW, xE_new, xsz_new, xsl_new, hM.tx, hM.xp, hM.l3, tb1, tb2, xsub]; done) | (simp [-List.getD_eq_getElem?_getD, xE_setI, xsz_setI, xsl_setI, xtag_setI, xown_setI, xlen_setI, xE_setR, xsz_setR, xsl_setR, xtag_setR, xown_setR, xlen_setR, xE_setW, xsz_setW, xsl_setW, xtag_setW, xown_setW, xlen_setW, xi_setR, xi_setW, xr_setI, xr_setW, xww_setI, xww_setR, xi_setI, xr_setR, xww_setW, xE_new, xsz_new, xsl_new, hM.tx, hM.xp, hM.l3, tb1, tb2] <;> rfl)) ?_
    rw [n2.2 4, b4]
    refine xw_iload_n (pc := 49) dX1_end_49 3 rfl ?_
    refine xw_icmp_ge (pc := 50) 57 dX1_end_50 rfl (fun hb50 => ?_) (fun hb50 => ?_)
    · have hlg : ¬ S 1 (23 + 20 * r + 4) < nI f := Int32.not_lt.mpr hb50
      refine xw_iconst (v := nI 0) (pc := 57) dX1_end_57 rfl ?_
      refine xw_bipush (v := nI 8) (pc := 58) dX1_end_58 (by decide +kernel) ?_
      refine xw_aload_n (pc := 60) dX1_end_60 0 rfl ?_
      refine xw_getI (pc := 61) fd_X1_291 dX1_end_61 (by first | assumption | (simp [-List.getD_eq_getElem?_getD, xE_setI, xsz_setI, xsl_setI, xtag_setI, xown_setI, xlen_setI, xE_setR, xsz_setR, xsl_setR, xtag_setR, xown_setR, xlen_setR, xE_setW, xsz_setW, xsl_setW, xtag_setW, xown_setW, xlen_setW, xi_setR, xi_setW, xr_setI, xr_setW, xww_setI, xww_setR, xi_setI, xr_setR, xww_setW, xE_new, xsz_new, xsl_new, hM.tx, hM.xp, hM.l3, tb1, tb2, xsub]; done) | (simp [-List.getD_eq_getElem?_getD, xE_setI, xsz_setI, xsl_setI, xtag_setI, xown_setI, xlen_setI, xE_setR, xsz_setR, xsl_setR, xtag_setR, xown_setR, xlen_setR, xE_setW, xsz_setW, xsl_setW, xtag_setW, xown_setW, xlen_setW, xi_setR, xi_setW, xr_setI, xr_setW, xww_setI, xww_setR, xi_setI, xr_setR, xww_setW, xE_new, xsz_new, xsl_new, hM.tx, hM.xp, hM.l3, tb1, tb2] <;> rfl)) ?_
      rw [n2.2 4, b4]
      refine xw_callF (pc := 64) (xr_V (as := [_, _, _]) ok_X10_asks rfl (by decide) q1447 q1284 q1285 (by first | (rw [xWy_new.1]; rfl) | (rw [hc42.1.1]; rfl)) (by first | (rw [xWy_new.1]; rfl) | (rw [hc42.1.1]; rfl)) dX1_end_64 rfl rfl (Nat.le_of_ble_eq_true rfl)) (SP_X10_asks (b := false) (re := 8) (c := 0) hc42.1 (by first | rfl | exact nI1 | exact nI0) (by decide)) ?_
      intro g64 hc64 hm64
      have F9 := (F42.tr hc64.2).sub (fun _ h => h) (Nat.le_refl _)
      have hw9 : xWy g64 (xsz g) (endW (S 1) r (nI f)) := hc64.1.congr (by
        unfold wAsk endW
        first | rw [if_pos hlf] | rw [if_neg hlf]
        first | rw [if_pos hlg] | rw [if_neg hlg] | skip
        simp)
      have hp0 := hM.P.p0
      have oK5 : oKeep (oEq 5) := by unfold oKeep oEq; omega
      have hP9 := hM.P.fr F9 (fun o h1 h2 => by unfold oP at h1; unfold oEq at h2; omega) (by unfold oEq; omega)
      have hM9 := hM.fr F9 oK5 hP9
      refine xw_callY (pc := 67) (xr_V (as := [_]) ok_X1_refuse rfl (by decide) q1302 q1304 qs22 (by rw [hM9.tx]; rfl) (by rw [hM9.tx]; rfl) dX1_end_67 rfl rfl (Nat.le_of_ble_eq_true rfl)) (SP_X1_refuse_Y hw9 hv hM.tx hM.ox F9 (by decide)) xRef_up rfl ?_
      exact fun _ _ h => h
    · have hlg : S 1 (23 + 20 * r + 4) < nI f := Int32.not_le.mp hb50
      refine xw_iconst (v := nI 1) (pc := 53) dX1_end_53 rfl ?_
      refine xw_goto (pc := 54) 58 dX1_end_54 rfl ?_
      refine xw_bipush (v := nI 8) (pc := 58) dX1_end_58 (by decide +kernel) ?_
      refine xw_aload_n (pc := 60) dX1_end_60 0 rfl ?_
      refine xw_getI (pc := 61) fd_X1_291 dX1_end_61 (by first | assumption | (simp [-List.getD_eq_getElem?_getD, xE_setI, xsz_setI, xsl_setI, xtag_setI, xown_setI, xlen_setI, xE_setR, xsz_setR, xsl_setR, xtag_setR, xown_setR, xlen_setR, xE_setW, xsz_setW, xsl_setW, xtag_setW, xown_setW, xlen_setW, xi_setR, xi_setW, xr_setI, xr_setW, xww_setI, xww_setR, xi_setI, xr_setR, xww_setW, xE_new, xsz_new, xsl_new, hM.tx, hM.xp, hM.l3, tb1, tb2, xsub]; done) | (simp [-List.getD_eq_getElem?_getD, xE_setI, xsz_setI, xsl_setI, xtag_setI, xown_setI, xlen_setI, xE_setR, xsz_setR, xsl_setR, xtag_setR, xown_setR, xlen_setR, xE_setW, xsz_setW, xsl_setW, xtag_setW, xown_setW, xlen_setW, xi_setR, xi_setW, xr_setI, xr_setW, xww_setI, xww_setR, xi_setI, xr_setR, xww_setW, xE_new, xsz_new, xsl_new, hM.tx, hM.xp, hM.l3, tb1, tb2] <;> rfl)) ?_
      rw [n2.2 4, b4]
      refine xw_callF (pc := 64) (xr_V (as := [_, _, _]) ok_X10_asks rfl (by decide) q1447 q1284 q1285 (by first | (rw [xWy_new.1]; rfl) | (rw [hc42.1.1]; rfl)) (by first | (rw [xWy_new.1]; rfl) | (rw [hc42.1.1]; rfl)) dX1_end_64 rfl rfl (Nat.le_of_ble_eq_true rfl)) (SP_X10_asks (b := true) (re := 8) (c := 1) hc42.1 (by first | rfl | exact nI1 | exact nI0) (by decide)) ?_
      intro g64 hc64 hm64
      have F9 := (F42.tr hc64.2).sub (fun _ h => h) (Nat.le_refl _)
      have hw9 : xWy g64 (xsz g) (endW (S 1) r (nI f)) := hc64.1.congr (by
        unfold wAsk endW
        first | rw [if_pos hlf] | rw [if_neg hlf]
        first | rw [if_pos hlg] | rw [if_neg hlg] | skip
        simp)
      have hp0 := hM.P.p0
      have oK5 : oKeep (oEq 5) := by unfold oKeep oEq; omega
      have hP9 := hM.P.fr F9 (fun o h1 h2 => by unfold oP at h1; unfold oEq at h2; omega) (by unfold oEq; omega)
      have hM9 := hM.fr F9 oK5 hP9
      refine xw_callY (pc := 67) (xr_V (as := [_]) ok_X1_refuse rfl (by decide) q1302 q1304 qs22 (by rw [hM9.tx]; rfl) (by rw [hM9.tx]; rfl) dX1_end_67 rfl rfl (Nat.le_of_ble_eq_true rfl)) (SP_X1_refuse_Y hw9 hv hM.tx hM.ox F9 (by decide)) xRef_up rfl ?_
      exact fun _ _ h => h

